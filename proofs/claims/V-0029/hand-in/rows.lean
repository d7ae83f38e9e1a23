section
/-! pure rows to paste: stores, nI and lN arithmetic, masks, shifts, narrowing, branches by naturals (pk_le, pk_lt, pk_eq), loops (lp1 .. lp16: the measure of the state; rp1 ..: recursion), negatives. Take what you need -/
theorem pk_us {f : Nat → Int32} {k : Nat} {x : Int32} : upd f k x k = x := if_pos rfl
theorem pk_un {f : Nat → Int32} {k j : Nat} {x : Int32} (h : j ≠ k) : upd f k x j = f j := if_neg h
theorem pk_uLs {f : Nat → Int64} {k : Nat} {x : Int64} : vp_updL f k x k = x := if_pos rfl
theorem pk_uLn {f : Nat → Int64} {k j : Nat} {x : Int64} (h : j ≠ k) : vp_updL f k x j = f j := if_neg h
theorem pk_sub {a b : Nat} (h : b ≤ a) : nI a - nI b = nI (a - b) := by
  obtain ⟨c, rfl⟩ : ∃ c, a = c + b := ⟨a - b, by omega⟩
  rw [← nI_add, Int32.add_sub_cancel, Nat.add_sub_cancel]
theorem pk_m1 (n : Nat) : nI (n + 1) + (-1) = nI n := by
  rw [← nI_1, Int32.add_assoc, show (1 : Int32) + (-1) = 0 from rfl, Int32.add_zero]
theorem pk_mul (a b : Nat) : nI a * nI b = nI (a * b) := (Int32.ofNat_mul a b).symm
theorem pk_div {a d : Nat} (ha : a < 2 ^ 31) (h0 : 0 < d) (hd : d < 2 ^ 31) : nI a / nI d = nI (a / d) := by
  apply Int32.toInt_inj.mp
  rw [lg_idiv_nonneg (by rw [nI_toInt ha]; omega) (by rw [nI_toInt hd]; omega), nI_toInt ha, nI_toInt hd, nI_toInt (Nat.lt_of_le_of_lt (Nat.div_le_self a d) ha)]
  first | rfl | exact (Int.natCast_ediv _ _).symm
theorem pk_rem {a d : Nat} (ha : a < 2 ^ 31) (h0 : 0 < d) (hd : d < 2 ^ 31) : nI a - nI a / nI d * nI d = nI (a % d) := by
  rw [pk_div ha h0 hd, pk_mul, pk_sub (Nat.div_mul_le_self a d)]
  exact congrArg nI (by have := Nat.div_add_mod' a d; omega)
theorem pk_sub_toInt {a b : Nat} (ha : a < 2 ^ 30) (hb : b < 2 ^ 30) : (nI a - nI b).toInt = (a : Int) - b := by
  rw [Int32.toInt_sub, nI_toInt (by omega), nI_toInt (by omega)]
  exact Int.bmod_eq_of_le (by omega) (by omega)
theorem pk_sneg {a b : Nat} (hb : b < 2 ^ 30) (h : a < b) : nI a - nI b < 0 := by
  rw [Int32.lt_iff_toInt_lt, pk_sub_toInt (by omega) hb, show (0 : Int32).toInt = 0 from by decide]
  omega
theorem pk_ix (x : Int32) {n : Nat} (hn : n < 2 ^ 31) : x < 0 ∨ nI n ≤ x ∨ ∃ j : Nat, j < n ∧ x = nI j := by
  by_cases h : x < 0
  · exact Or.inl h
  · obtain ⟨j, hj, rfl⟩ := nI_of h
    by_cases h2 : j < n
    · exact Or.inr (Or.inr ⟨j, h2, rfl⟩)
    · exact Or.inr (Or.inl (nI_le (by omega) hj))
theorem pk_le {x y : Int32} {A B : Prop} (a b : Nat) (f : a ≤ b → A) (g : b < a → B) (hx : x = nI a := by rfl) (hy : y = nI b := by rfl) (ha : a < 2 ^ 31 := by omega) (hb : b < 2 ^ 31 := by omega) : (x ≤ y → A) ∧ (¬ x ≤ y → B) := by
  subst hx hy
  rw [nI_leI ha hb]
  exact ⟨f, fun z => g (by omega)⟩
theorem pk_lt {x y : Int32} {A B : Prop} (a b : Nat) (f : a < b → A) (g : b ≤ a → B) (hx : x = nI a := by rfl) (hy : y = nI b := by rfl) (ha : a < 2 ^ 31 := by omega) (hb : b < 2 ^ 31 := by omega) : (x < y → A) ∧ (¬ x < y → B) := by
  subst hx hy
  rw [nI_ltI ha hb]
  exact ⟨f, fun z => g (by omega)⟩
theorem pk_eq {x y : Int32} {A B : Prop} (a b : Nat) (f : a = b → A) (g : a ≠ b → B) (hx : x = nI a := by rfl) (hy : y = nI b := by rfl) (ha : a < 2 ^ 31 := by omega) (hb : b < 2 ^ 31 := by omega) : (x = y → A) ∧ (¬ x = y → B) := by
  subst hx hy
  rw [nI_eq ha hb]
  exact ⟨f, g⟩
theorem pk_in {x : Int32} (n N : Nat) (h : n < N) (hx : x = nI n := by rfl) (hN : N < 2 ^ 31 := by omega) : vp_in x N := by
  subst hx
  exact vp_in_nI h hN
theorem pk_cl {x : Int32} (n : Nat) (hx : x = nI n := by rfl) (h : n < 2 ^ 31 := by omega) : x.toNatClampNeg = n := by
  subst hx
  exact nI_clamp h
theorem pk_tn {n : Nat} (h : n < 2 ^ 32) : (nI n).toBitVec.toNat = n := Nat.mod_eq_of_lt h
theorem pk_and (x : Int32) {m : Int32} (k : Nat) (hm : m.toBitVec.toNat = 2 ^ k - 1) : x &&& m = nI (x.toBitVec.toNat % 2 ^ k) := by
  apply Int32.toBitVec_inj.mp
  apply BitVec.eq_of_toNat_eq
  rw [Int32.toBitVec_and, BitVec.toNat_and, hm, Nat.and_two_pow_sub_one_eq_mod]
  show _ = (BitVec.ofNat 32 _).toNat
  rw [BitVec.toNat_ofNat]
  exact (Nat.mod_eq_of_lt (Nat.lt_of_le_of_lt (Nat.mod_le _ _) x.toBitVec.isLt)).symm
theorem pk_andN {n : Nat} (h : n < 2 ^ 32) {m : Int32} (k : Nat) (hm : m.toBitVec.toNat = 2 ^ k - 1) : nI n &&& m = nI (n % 2 ^ k) := by
  rw [pk_and _ k hm, pk_tn h]
theorem pk_andE (x : Int32) {m : Int32} (k : Nat) (hm : m.toBitVec.toNat = 2 ^ k - 1) : ∃ j : Nat, j < 2 ^ k ∧ x &&& m = nI j := ⟨_, Nat.mod_lt _ (Nat.two_pow_pos k), pk_and x k hm⟩
theorem pk_andIn (x : Int32) {m : Int32} (k : Nat) (hm : m.toBitVec.toNat = 2 ^ k - 1) (hk : k ≤ 30) : vp_in (x &&& m) (2 ^ k) := by
  obtain ⟨j, hj, e⟩ := pk_andE x k hm
  rw [e]
  exact vp_in_nI hj (Nat.lt_of_le_of_lt (Nat.pow_le_pow_right (by decide) hk) (by decide))
theorem pk_shl (a s : Int32) (k : Nat) (hs : (s.toBitVec.smod 32).toNat = k) : (a <<< s).toBitVec.toNat = a.toBitVec.toNat * 2 ^ k % 2 ^ 32 := by
  show (a.toBitVec <<< (s.toBitVec.smod 32).toNat).toNat = _
  rw [hs, BitVec.toNat_shiftLeft, Nat.shiftLeft_eq]
theorem pk_shlN {n : Nat} (s : Int32) (k : Nat) (hs : (s.toBitVec.smod 32).toNat = k) (h : n * 2 ^ k < 2 ^ 32) : nI n <<< s = nI (n * 2 ^ k) := by
  apply Int32.toBitVec_inj.mp
  apply BitVec.eq_of_toNat_eq
  have hn : n < 2 ^ 32 := Nat.lt_of_le_of_lt (Nat.le_mul_of_pos_right n (Nat.two_pow_pos k)) h
  rw [pk_shl _ _ k hs, pk_tn hn, pk_tn h, Nat.mod_eq_of_lt h]
theorem pk_shr (a s : Int32) (k : Nat) (hs : (s.toBitVec.smod 32).toNat = k) : (a >>> s).toInt = a.toInt >>> k := by
  show (a.toBitVec.sshiftRight (s.toBitVec.smod 32).toNat).toInt = _
  rw [hs, BitVec.toInt_sshiftRight]
  rfl
theorem pk_shrN {n : Nat} (h : n < 2 ^ 31) (s : Int32) (k : Nat) (hs : (s.toBitVec.smod 32).toNat = k) : nI n >>> s = nI (n / 2 ^ k) := by
  apply Int32.toInt_inj.mp
  have h2 : n / 2 ^ k ≤ n := Nat.div_le_self _ _
  rw [pk_shr _ _ k hs, nI_toInt h, nI_toInt (by omega), Int.shiftRight_eq_div_pow]
  rfl
theorem pk_ushr (x s : Int32) (k : Nat) (hs : ((s.toUInt32 &&& Int32.toUInt32 31).toBitVec % 32).toNat = k) : (x.toUInt32 >>> (s.toUInt32 &&& Int32.toUInt32 31)).toInt32.toBitVec.toNat = x.toBitVec.toNat / 2 ^ k := by
  have e : (x.toUInt32 >>> (s.toUInt32 &&& Int32.toUInt32 31)).toInt32.toBitVec = x.toBitVec >>> k := by
    rw [← hs]
    exact UInt32.toBitVec_shiftRight _ _
  rw [e, BitVec.toNat_ushiftRight, Nat.shiftRight_eq_div_pow]
theorem pk_ushrN {n : Nat} (hn : n < 2 ^ 32) (s : Int32) (k : Nat) (hs : ((s.toUInt32 &&& Int32.toUInt32 31).toBitVec % 32).toNat = k) : ((nI n).toUInt32 >>> (s.toUInt32 &&& Int32.toUInt32 31)).toInt32 = nI (n / 2 ^ k) := by
  apply Int32.toBitVec_inj.mp
  apply BitVec.eq_of_toNat_eq
  rw [pk_ushr _ s k hs, pk_tn hn, pk_tn (Nat.lt_of_le_of_lt (Nat.div_le_self _ _) hn)]
theorem pk_nb (z : Int32) : narrow .byte (.int z.toInt8.toInt32) = .int z.toInt8.toInt32 := congrArg Value.int (by simp)
theorem pk_ns (z : Int32) : narrow .short (.int z.toInt16.toInt32) = .int z.toInt16.toInt32 := congrArg Value.int (by simp)
theorem pk_fb (r : Int32) : fits .byte (.int r.toInt8.toInt32) = true := by
  have ⟨a, b⟩ := lg_i2b_range r
  have h1 : (-128 : Int32).toInt = -128 := by decide
  have h2 : (127 : Int32).toInt = 127 := by decide
  simp only [fits, Bool.and_eq_true, decide_eq_true_eq, Int32.le_iff_toInt_le, h1, h2]
  omega
theorem pk_fs (r : Int32) : fits .short (.int r.toInt16.toInt32) = true := by
  have ⟨a, b⟩ := lg_i2s_range r
  have h1 : (-32768 : Int32).toInt = -32768 := by decide
  have h2 : (32767 : Int32).toInt = 32767 := by decide
  simp only [fits, Bool.and_eq_true, decide_eq_true_eq, Int32.le_iff_toInt_le, h1, h2]
  omega
theorem pk_charN {q : Nat} (hq : q < 65536) : narrow .char (.int (nI q)) = .int (nI q) ∧ fits .char (.int (nI q)) = true := by
  constructor
  · have e : (nI q).toUInt32.toUInt16.toUInt32.toInt32 = nI q := by
      apply Int32.toBitVec_inj.mp
      apply BitVec.eq_of_toNat_eq
      show (nI q).toUInt32.toUInt16.toUInt32.toNat = q % 2 ^ 32
      rw [UInt16.toNat_toUInt32, UInt32.toNat_toUInt16, show (nI q).toUInt32.toNat = q % 2 ^ 32 from rfl]
      omega
    exact congrArg Value.int e
  · have a : (0 : Int32) ≤ nI q := nI_pos' (by omega)
    have b : nI q ≤ 65535 := nI_le (b := 65535) (by omega) (by decide)
    show (decide ((0 : Int32) ≤ nI q) && decide (nI q ≤ 65535)) = true
    rw [decide_eq_true a, decide_eq_true b]
    rfl
theorem pk_char (x : Int32) : (x.toUInt32 % 65536).toInt32 = nI (x.toBitVec.toNat % 65536) := by
  apply Int32.toBitVec_inj.mp
  apply BitVec.eq_of_toNat_eq
  rw [pk_tn (by omega)]
  show (x.toUInt32 % 65536).toNat = _
  rw [UInt32.toNat_mod]
  rfl
theorem pk_nc (x : Int32) : narrow .char (.int (x.toUInt32 % 65536).toInt32) = .int (x.toUInt32 % 65536).toInt32 := by
  rw [pk_char]
  exact (pk_charN (Nat.mod_lt _ (by decide))).1
theorem pk_fc (x : Int32) : fits .char (.int (x.toUInt32 % 65536).toInt32) = true := by
  rw [pk_char]
  exact (pk_charN (Nat.mod_lt _ (by decide))).2
theorem pk_vb (z : Int32) : vp_nar .byte z.toInt8.toInt32 = z.toInt8.toInt32 := by rw [vp_nar_byte]; simp
theorem pk_vs (z : Int32) : vp_nar .short z.toInt16.toInt32 = z.toInt16.toInt32 := by rw [vp_nar_short]; simp
theorem pk_vc (z : Int32) : vp_nar .char (z.toUInt32 % 65536).toInt32 = (z.toUInt32 % 65536).toInt32 := Value.int.inj (pk_nc z)
theorem pk_lT {n : Nat} (h : n < 2 ^ 63) : (lN n).toInt = (n : Int) := lg_ofNat_toInt h
theorem pk_lLT {a b : Nat} (ha : a < 2 ^ 63) (hb : b < 2 ^ 63) : lN a < lN b ↔ a < b := by
  rw [Int64.lt_iff_toInt_lt, pk_lT ha, pk_lT hb]; omega
theorem pk_lLE {a b : Nat} (ha : a < 2 ^ 63) (hb : b < 2 ^ 63) : lN a ≤ lN b ↔ a ≤ b := by
  rw [Int64.le_iff_toInt_le, pk_lT ha, pk_lT hb]; omega
theorem pk_lEQ {a b : Nat} (ha : a < 2 ^ 63) (hb : b < 2 ^ 63) : lN a = lN b ↔ a = b := by
  rw [← Int64.toInt_inj, pk_lT ha, pk_lT hb]; omega
theorem pk_lOf {x : Int64} (h : ¬ x < 0) : ∃ k : Nat, k < 2 ^ 63 ∧ x = lN k := by
  rw [Int64.lt_iff_toInt_lt] at h
  have h0 : (0 : Int64).toInt = 0 := by decide
  have hx := Int64.toInt_lt x
  refine ⟨x.toInt.toNat, by omega, Int64.toInt_inj.mp ?_⟩
  rw [pk_lT (by omega)]
  omega
theorem pk_lDiv {a b : Nat} (ha : a < 2 ^ 63) (h0 : 0 < b) (hb : b < 2 ^ 63) : lN a / lN b = lN (a / b) := by
  apply Int64.toInt_inj.mp
  rw [lg_ldiv_nonneg (by rw [pk_lT ha]; omega) (by rw [pk_lT hb]; omega), pk_lT ha, pk_lT hb, pk_lT (Nat.lt_of_le_of_lt (Nat.div_le_self a b) ha)]
  rfl
theorem pk_lRem {a b : Nat} (ha : a < 2 ^ 63) (h0 : 0 < b) (hb : b < 2 ^ 63) : lN a - lN a / lN b * lN b = lN (a % b) := by
  rw [pk_lDiv ha h0 hb, lN_mul, lN_sub (Nat.div_mul_le_self a b)]
  exact congrArg lN (by have := Nat.div_add_mod' a b; omega)
theorem pk_loop {σ : Type} (W : Nat → Nat → σ → Prop) (I : Nat → σ → Prop) (e i0 : Nat) (s : σ) (hi : i0 ≤ e) (h0 : I i0 s) (hx : ∀ n s, I e s → W (n + 1) e s)
    (hs : ∀ n i s, i < e → I i s → (∀ s', I (i + 1) s' → W n (i + 1) s') → W (n + 1) i s) : ∃ n, W n i0 s :=
  ⟨e + 1, loop_i W I e hx hs (e + 1) i0 s hi (by omega) h0⟩
theorem pk_loopD {σ : Type} (W : Nat → Nat → σ → Prop) (I : Nat → σ → Prop) (hx : ∀ n s, I 0 s → W (n + 1) 0 s)
    (hs : ∀ n i s, I (i + 1) s → (∀ s', I i s' → W n i s') → W (n + 1) (i + 1) s) : ∀ (e : Nat) (s : σ), I e s → W (e + 1) e s := by
  intro e
  induction e with
  | zero => exact fun s h => hx 0 s h
  | succ e ih => exact fun s h => hs (e + 1) e s h (fun s' h' => ih s' h')
theorem lp1 {A1 : Type} (W : Nat → A1 → Prop) (I : A1 → Prop) (μ : A1 → Nat) (hs : ∀ (n : Nat) (a1 : A1), I a1 → (∀ (b1 : A1), I b1 → μ b1 < μ a1 → W n b1) → W (n + 1) a1) (a1 : A1) (h : I a1) : ∃ n, W n a1 :=
  loop_m (σ := A1) (fun n s => W n s) (fun s => I s) (fun s => μ s) (fun n s hI hk => hs n s hI (fun b1 h9 hm => hk b1 h9 hm)) a1 h
theorem lp2 {A1 A2 : Type} (W : Nat → A1 → A2 → Prop) (I : A1 → A2 → Prop) (μ : A1 → A2 → Nat) (hs : ∀ (n : Nat) (a1 : A1) (a2 : A2), I a1 a2 → (∀ (b1 : A1) (b2 : A2), I b1 b2 → μ b1 b2 < μ a1 a2 → W n b1 b2) → W (n + 1) a1 a2) (a1 : A1) (a2 : A2) (h : I a1 a2) : ∃ n, W n a1 a2 :=
  loop_m (σ := A1 × A2) (fun n s => W n s.1 s.2) (fun s => I s.1 s.2) (fun s => μ s.1 s.2) (fun n s hI hk => hs n s.1 s.2 hI (fun b1 b2 h9 hm => hk (b1, b2) h9 hm)) (a1, a2) h
theorem lp3 {A1 A2 A3 : Type} (W : Nat → A1 → A2 → A3 → Prop) (I : A1 → A2 → A3 → Prop) (μ : A1 → A2 → A3 → Nat) (hs : ∀ (n : Nat) (a1 : A1) (a2 : A2) (a3 : A3), I a1 a2 a3 → (∀ (b1 : A1) (b2 : A2) (b3 : A3), I b1 b2 b3 → μ b1 b2 b3 < μ a1 a2 a3 → W n b1 b2 b3) → W (n + 1) a1 a2 a3) (a1 : A1) (a2 : A2) (a3 : A3) (h : I a1 a2 a3) : ∃ n, W n a1 a2 a3 :=
  loop_m (σ := A1 × A2 × A3) (fun n s => W n s.1 s.2.1 s.2.2) (fun s => I s.1 s.2.1 s.2.2) (fun s => μ s.1 s.2.1 s.2.2) (fun n s hI hk => hs n s.1 s.2.1 s.2.2 hI (fun b1 b2 b3 h9 hm => hk (b1, b2, b3) h9 hm)) (a1, a2, a3) h
theorem lp4 {A1 A2 A3 A4 : Type} (W : Nat → A1 → A2 → A3 → A4 → Prop) (I : A1 → A2 → A3 → A4 → Prop) (μ : A1 → A2 → A3 → A4 → Nat) (hs : ∀ (n : Nat) (a1 : A1) (a2 : A2) (a3 : A3) (a4 : A4), I a1 a2 a3 a4 → (∀ (b1 : A1) (b2 : A2) (b3 : A3) (b4 : A4), I b1 b2 b3 b4 → μ b1 b2 b3 b4 < μ a1 a2 a3 a4 → W n b1 b2 b3 b4) → W (n + 1) a1 a2 a3 a4) (a1 : A1) (a2 : A2) (a3 : A3) (a4 : A4) (h : I a1 a2 a3 a4) : ∃ n, W n a1 a2 a3 a4 :=
  loop_m (σ := A1 × A2 × A3 × A4) (fun n s => W n s.1 s.2.1 s.2.2.1 s.2.2.2) (fun s => I s.1 s.2.1 s.2.2.1 s.2.2.2) (fun s => μ s.1 s.2.1 s.2.2.1 s.2.2.2) (fun n s hI hk => hs n s.1 s.2.1 s.2.2.1 s.2.2.2 hI (fun b1 b2 b3 b4 h9 hm => hk (b1, b2, b3, b4) h9 hm)) (a1, a2, a3, a4) h
theorem lp5 {A1 A2 A3 A4 A5 : Type} (W : Nat → A1 → A2 → A3 → A4 → A5 → Prop) (I : A1 → A2 → A3 → A4 → A5 → Prop) (μ : A1 → A2 → A3 → A4 → A5 → Nat) (hs : ∀ (n : Nat) (a1 : A1) (a2 : A2) (a3 : A3) (a4 : A4) (a5 : A5), I a1 a2 a3 a4 a5 → (∀ (b1 : A1) (b2 : A2) (b3 : A3) (b4 : A4) (b5 : A5), I b1 b2 b3 b4 b5 → μ b1 b2 b3 b4 b5 < μ a1 a2 a3 a4 a5 → W n b1 b2 b3 b4 b5) → W (n + 1) a1 a2 a3 a4 a5) (a1 : A1) (a2 : A2) (a3 : A3) (a4 : A4) (a5 : A5) (h : I a1 a2 a3 a4 a5) : ∃ n, W n a1 a2 a3 a4 a5 :=
  loop_m (σ := A1 × A2 × A3 × A4 × A5) (fun n s => W n s.1 s.2.1 s.2.2.1 s.2.2.2.1 s.2.2.2.2) (fun s => I s.1 s.2.1 s.2.2.1 s.2.2.2.1 s.2.2.2.2) (fun s => μ s.1 s.2.1 s.2.2.1 s.2.2.2.1 s.2.2.2.2) (fun n s hI hk => hs n s.1 s.2.1 s.2.2.1 s.2.2.2.1 s.2.2.2.2 hI (fun b1 b2 b3 b4 b5 h9 hm => hk (b1, b2, b3, b4, b5) h9 hm)) (a1, a2, a3, a4, a5) h
theorem lp6 {A1 A2 A3 A4 A5 A6 : Type} (W : Nat → A1 → A2 → A3 → A4 → A5 → A6 → Prop) (I : A1 → A2 → A3 → A4 → A5 → A6 → Prop) (μ : A1 → A2 → A3 → A4 → A5 → A6 → Nat) (hs : ∀ (n : Nat) (a1 : A1) (a2 : A2) (a3 : A3) (a4 : A4) (a5 : A5) (a6 : A6), I a1 a2 a3 a4 a5 a6 → (∀ (b1 : A1) (b2 : A2) (b3 : A3) (b4 : A4) (b5 : A5) (b6 : A6), I b1 b2 b3 b4 b5 b6 → μ b1 b2 b3 b4 b5 b6 < μ a1 a2 a3 a4 a5 a6 → W n b1 b2 b3 b4 b5 b6) → W (n + 1) a1 a2 a3 a4 a5 a6) (a1 : A1) (a2 : A2) (a3 : A3) (a4 : A4) (a5 : A5) (a6 : A6) (h : I a1 a2 a3 a4 a5 a6) : ∃ n, W n a1 a2 a3 a4 a5 a6 :=
  loop_m (σ := A1 × A2 × A3 × A4 × A5 × A6) (fun n s => W n s.1 s.2.1 s.2.2.1 s.2.2.2.1 s.2.2.2.2.1 s.2.2.2.2.2) (fun s => I s.1 s.2.1 s.2.2.1 s.2.2.2.1 s.2.2.2.2.1 s.2.2.2.2.2) (fun s => μ s.1 s.2.1 s.2.2.1 s.2.2.2.1 s.2.2.2.2.1 s.2.2.2.2.2) (fun n s hI hk => hs n s.1 s.2.1 s.2.2.1 s.2.2.2.1 s.2.2.2.2.1 s.2.2.2.2.2 hI (fun b1 b2 b3 b4 b5 b6 h9 hm => hk (b1, b2, b3, b4, b5, b6) h9 hm)) (a1, a2, a3, a4, a5, a6) h
theorem lp7 {A1 A2 A3 A4 A5 A6 A7 : Type} (W : Nat → A1 → A2 → A3 → A4 → A5 → A6 → A7 → Prop) (I : A1 → A2 → A3 → A4 → A5 → A6 → A7 → Prop) (μ : A1 → A2 → A3 → A4 → A5 → A6 → A7 → Nat) (hs : ∀ (n : Nat) (a1 : A1) (a2 : A2) (a3 : A3) (a4 : A4) (a5 : A5) (a6 : A6) (a7 : A7), I a1 a2 a3 a4 a5 a6 a7 → (∀ (b1 : A1) (b2 : A2) (b3 : A3) (b4 : A4) (b5 : A5) (b6 : A6) (b7 : A7), I b1 b2 b3 b4 b5 b6 b7 → μ b1 b2 b3 b4 b5 b6 b7 < μ a1 a2 a3 a4 a5 a6 a7 → W n b1 b2 b3 b4 b5 b6 b7) → W (n + 1) a1 a2 a3 a4 a5 a6 a7) (a1 : A1) (a2 : A2) (a3 : A3) (a4 : A4) (a5 : A5) (a6 : A6) (a7 : A7) (h : I a1 a2 a3 a4 a5 a6 a7) : ∃ n, W n a1 a2 a3 a4 a5 a6 a7 :=
  loop_m (σ := A1 × A2 × A3 × A4 × A5 × A6 × A7) (fun n s => W n s.1 s.2.1 s.2.2.1 s.2.2.2.1 s.2.2.2.2.1 s.2.2.2.2.2.1 s.2.2.2.2.2.2) (fun s => I s.1 s.2.1 s.2.2.1 s.2.2.2.1 s.2.2.2.2.1 s.2.2.2.2.2.1 s.2.2.2.2.2.2) (fun s => μ s.1 s.2.1 s.2.2.1 s.2.2.2.1 s.2.2.2.2.1 s.2.2.2.2.2.1 s.2.2.2.2.2.2) (fun n s hI hk => hs n s.1 s.2.1 s.2.2.1 s.2.2.2.1 s.2.2.2.2.1 s.2.2.2.2.2.1 s.2.2.2.2.2.2 hI (fun b1 b2 b3 b4 b5 b6 b7 h9 hm => hk (b1, b2, b3, b4, b5, b6, b7) h9 hm)) (a1, a2, a3, a4, a5, a6, a7) h
theorem lp8 {A1 A2 A3 A4 A5 A6 A7 A8 : Type} (W : Nat → A1 → A2 → A3 → A4 → A5 → A6 → A7 → A8 → Prop) (I : A1 → A2 → A3 → A4 → A5 → A6 → A7 → A8 → Prop) (μ : A1 → A2 → A3 → A4 → A5 → A6 → A7 → A8 → Nat) (hs : ∀ (n : Nat) (a1 : A1) (a2 : A2) (a3 : A3) (a4 : A4) (a5 : A5) (a6 : A6) (a7 : A7) (a8 : A8), I a1 a2 a3 a4 a5 a6 a7 a8 → (∀ (b1 : A1) (b2 : A2) (b3 : A3) (b4 : A4) (b5 : A5) (b6 : A6) (b7 : A7) (b8 : A8), I b1 b2 b3 b4 b5 b6 b7 b8 → μ b1 b2 b3 b4 b5 b6 b7 b8 < μ a1 a2 a3 a4 a5 a6 a7 a8 → W n b1 b2 b3 b4 b5 b6 b7 b8) → W (n + 1) a1 a2 a3 a4 a5 a6 a7 a8) (a1 : A1) (a2 : A2) (a3 : A3) (a4 : A4) (a5 : A5) (a6 : A6) (a7 : A7) (a8 : A8) (h : I a1 a2 a3 a4 a5 a6 a7 a8) : ∃ n, W n a1 a2 a3 a4 a5 a6 a7 a8 :=
  loop_m (σ := A1 × A2 × A3 × A4 × A5 × A6 × A7 × A8) (fun n s => W n s.1 s.2.1 s.2.2.1 s.2.2.2.1 s.2.2.2.2.1 s.2.2.2.2.2.1 s.2.2.2.2.2.2.1 s.2.2.2.2.2.2.2) (fun s => I s.1 s.2.1 s.2.2.1 s.2.2.2.1 s.2.2.2.2.1 s.2.2.2.2.2.1 s.2.2.2.2.2.2.1 s.2.2.2.2.2.2.2) (fun s => μ s.1 s.2.1 s.2.2.1 s.2.2.2.1 s.2.2.2.2.1 s.2.2.2.2.2.1 s.2.2.2.2.2.2.1 s.2.2.2.2.2.2.2) (fun n s hI hk => hs n s.1 s.2.1 s.2.2.1 s.2.2.2.1 s.2.2.2.2.1 s.2.2.2.2.2.1 s.2.2.2.2.2.2.1 s.2.2.2.2.2.2.2 hI (fun b1 b2 b3 b4 b5 b6 b7 b8 h9 hm => hk (b1, b2, b3, b4, b5, b6, b7, b8) h9 hm)) (a1, a2, a3, a4, a5, a6, a7, a8) h
theorem lp9 {A1 A2 A3 A4 A5 A6 A7 A8 A9 : Type} (W : Nat → A1 → A2 → A3 → A4 → A5 → A6 → A7 → A8 → A9 → Prop) (I : A1 → A2 → A3 → A4 → A5 → A6 → A7 → A8 → A9 → Prop) (μ : A1 → A2 → A3 → A4 → A5 → A6 → A7 → A8 → A9 → Nat) (hs : ∀ (n : Nat) (a1 : A1) (a2 : A2) (a3 : A3) (a4 : A4) (a5 : A5) (a6 : A6) (a7 : A7) (a8 : A8) (a9 : A9), I a1 a2 a3 a4 a5 a6 a7 a8 a9 → (∀ (b1 : A1) (b2 : A2) (b3 : A3) (b4 : A4) (b5 : A5) (b6 : A6) (b7 : A7) (b8 : A8) (b9 : A9), I b1 b2 b3 b4 b5 b6 b7 b8 b9 → μ b1 b2 b3 b4 b5 b6 b7 b8 b9 < μ a1 a2 a3 a4 a5 a6 a7 a8 a9 → W n b1 b2 b3 b4 b5 b6 b7 b8 b9) → W (n + 1) a1 a2 a3 a4 a5 a6 a7 a8 a9) (a1 : A1) (a2 : A2) (a3 : A3) (a4 : A4) (a5 : A5) (a6 : A6) (a7 : A7) (a8 : A8) (a9 : A9) (h : I a1 a2 a3 a4 a5 a6 a7 a8 a9) : ∃ n, W n a1 a2 a3 a4 a5 a6 a7 a8 a9 :=
  loop_m (σ := A1 × A2 × A3 × A4 × A5 × A6 × A7 × A8 × A9) (fun n s => W n s.1 s.2.1 s.2.2.1 s.2.2.2.1 s.2.2.2.2.1 s.2.2.2.2.2.1 s.2.2.2.2.2.2.1 s.2.2.2.2.2.2.2.1 s.2.2.2.2.2.2.2.2) (fun s => I s.1 s.2.1 s.2.2.1 s.2.2.2.1 s.2.2.2.2.1 s.2.2.2.2.2.1 s.2.2.2.2.2.2.1 s.2.2.2.2.2.2.2.1 s.2.2.2.2.2.2.2.2) (fun s => μ s.1 s.2.1 s.2.2.1 s.2.2.2.1 s.2.2.2.2.1 s.2.2.2.2.2.1 s.2.2.2.2.2.2.1 s.2.2.2.2.2.2.2.1 s.2.2.2.2.2.2.2.2) (fun n s hI hk => hs n s.1 s.2.1 s.2.2.1 s.2.2.2.1 s.2.2.2.2.1 s.2.2.2.2.2.1 s.2.2.2.2.2.2.1 s.2.2.2.2.2.2.2.1 s.2.2.2.2.2.2.2.2 hI (fun b1 b2 b3 b4 b5 b6 b7 b8 b9 h9 hm => hk (b1, b2, b3, b4, b5, b6, b7, b8, b9) h9 hm)) (a1, a2, a3, a4, a5, a6, a7, a8, a9) h
theorem lp10 {A1 A2 A3 A4 A5 A6 A7 A8 A9 A10 : Type} (W : Nat → A1 → A2 → A3 → A4 → A5 → A6 → A7 → A8 → A9 → A10 → Prop) (I : A1 → A2 → A3 → A4 → A5 → A6 → A7 → A8 → A9 → A10 → Prop) (μ : A1 → A2 → A3 → A4 → A5 → A6 → A7 → A8 → A9 → A10 → Nat) (hs : ∀ (n : Nat) (a1 : A1) (a2 : A2) (a3 : A3) (a4 : A4) (a5 : A5) (a6 : A6) (a7 : A7) (a8 : A8) (a9 : A9) (a10 : A10), I a1 a2 a3 a4 a5 a6 a7 a8 a9 a10 → (∀ (b1 : A1) (b2 : A2) (b3 : A3) (b4 : A4) (b5 : A5) (b6 : A6) (b7 : A7) (b8 : A8) (b9 : A9) (b10 : A10), I b1 b2 b3 b4 b5 b6 b7 b8 b9 b10 → μ b1 b2 b3 b4 b5 b6 b7 b8 b9 b10 < μ a1 a2 a3 a4 a5 a6 a7 a8 a9 a10 → W n b1 b2 b3 b4 b5 b6 b7 b8 b9 b10) → W (n + 1) a1 a2 a3 a4 a5 a6 a7 a8 a9 a10) (a1 : A1) (a2 : A2) (a3 : A3) (a4 : A4) (a5 : A5) (a6 : A6) (a7 : A7) (a8 : A8) (a9 : A9) (a10 : A10) (h : I a1 a2 a3 a4 a5 a6 a7 a8 a9 a10) : ∃ n, W n a1 a2 a3 a4 a5 a6 a7 a8 a9 a10 :=
  loop_m (σ := A1 × A2 × A3 × A4 × A5 × A6 × A7 × A8 × A9 × A10) (fun n s => W n s.1 s.2.1 s.2.2.1 s.2.2.2.1 s.2.2.2.2.1 s.2.2.2.2.2.1 s.2.2.2.2.2.2.1 s.2.2.2.2.2.2.2.1 s.2.2.2.2.2.2.2.2.1 s.2.2.2.2.2.2.2.2.2) (fun s => I s.1 s.2.1 s.2.2.1 s.2.2.2.1 s.2.2.2.2.1 s.2.2.2.2.2.1 s.2.2.2.2.2.2.1 s.2.2.2.2.2.2.2.1 s.2.2.2.2.2.2.2.2.1 s.2.2.2.2.2.2.2.2.2) (fun s => μ s.1 s.2.1 s.2.2.1 s.2.2.2.1 s.2.2.2.2.1 s.2.2.2.2.2.1 s.2.2.2.2.2.2.1 s.2.2.2.2.2.2.2.1 s.2.2.2.2.2.2.2.2.1 s.2.2.2.2.2.2.2.2.2) (fun n s hI hk => hs n s.1 s.2.1 s.2.2.1 s.2.2.2.1 s.2.2.2.2.1 s.2.2.2.2.2.1 s.2.2.2.2.2.2.1 s.2.2.2.2.2.2.2.1 s.2.2.2.2.2.2.2.2.1 s.2.2.2.2.2.2.2.2.2 hI (fun b1 b2 b3 b4 b5 b6 b7 b8 b9 b10 h9 hm => hk (b1, b2, b3, b4, b5, b6, b7, b8, b9, b10) h9 hm)) (a1, a2, a3, a4, a5, a6, a7, a8, a9, a10) h
theorem lp11 {A1 A2 A3 A4 A5 A6 A7 A8 A9 A10 A11 : Type} (W : Nat → A1 → A2 → A3 → A4 → A5 → A6 → A7 → A8 → A9 → A10 → A11 → Prop) (I : A1 → A2 → A3 → A4 → A5 → A6 → A7 → A8 → A9 → A10 → A11 → Prop) (μ : A1 → A2 → A3 → A4 → A5 → A6 → A7 → A8 → A9 → A10 → A11 → Nat) (hs : ∀ (n : Nat) (a1 : A1) (a2 : A2) (a3 : A3) (a4 : A4) (a5 : A5) (a6 : A6) (a7 : A7) (a8 : A8) (a9 : A9) (a10 : A10) (a11 : A11), I a1 a2 a3 a4 a5 a6 a7 a8 a9 a10 a11 → (∀ (b1 : A1) (b2 : A2) (b3 : A3) (b4 : A4) (b5 : A5) (b6 : A6) (b7 : A7) (b8 : A8) (b9 : A9) (b10 : A10) (b11 : A11), I b1 b2 b3 b4 b5 b6 b7 b8 b9 b10 b11 → μ b1 b2 b3 b4 b5 b6 b7 b8 b9 b10 b11 < μ a1 a2 a3 a4 a5 a6 a7 a8 a9 a10 a11 → W n b1 b2 b3 b4 b5 b6 b7 b8 b9 b10 b11) → W (n + 1) a1 a2 a3 a4 a5 a6 a7 a8 a9 a10 a11) (a1 : A1) (a2 : A2) (a3 : A3) (a4 : A4) (a5 : A5) (a6 : A6) (a7 : A7) (a8 : A8) (a9 : A9) (a10 : A10) (a11 : A11) (h : I a1 a2 a3 a4 a5 a6 a7 a8 a9 a10 a11) : ∃ n, W n a1 a2 a3 a4 a5 a6 a7 a8 a9 a10 a11 :=
  loop_m (σ := A1 × A2 × A3 × A4 × A5 × A6 × A7 × A8 × A9 × A10 × A11) (fun n s => W n s.1 s.2.1 s.2.2.1 s.2.2.2.1 s.2.2.2.2.1 s.2.2.2.2.2.1 s.2.2.2.2.2.2.1 s.2.2.2.2.2.2.2.1 s.2.2.2.2.2.2.2.2.1 s.2.2.2.2.2.2.2.2.2.1 s.2.2.2.2.2.2.2.2.2.2) (fun s => I s.1 s.2.1 s.2.2.1 s.2.2.2.1 s.2.2.2.2.1 s.2.2.2.2.2.1 s.2.2.2.2.2.2.1 s.2.2.2.2.2.2.2.1 s.2.2.2.2.2.2.2.2.1 s.2.2.2.2.2.2.2.2.2.1 s.2.2.2.2.2.2.2.2.2.2) (fun s => μ s.1 s.2.1 s.2.2.1 s.2.2.2.1 s.2.2.2.2.1 s.2.2.2.2.2.1 s.2.2.2.2.2.2.1 s.2.2.2.2.2.2.2.1 s.2.2.2.2.2.2.2.2.1 s.2.2.2.2.2.2.2.2.2.1 s.2.2.2.2.2.2.2.2.2.2) (fun n s hI hk => hs n s.1 s.2.1 s.2.2.1 s.2.2.2.1 s.2.2.2.2.1 s.2.2.2.2.2.1 s.2.2.2.2.2.2.1 s.2.2.2.2.2.2.2.1 s.2.2.2.2.2.2.2.2.1 s.2.2.2.2.2.2.2.2.2.1 s.2.2.2.2.2.2.2.2.2.2 hI (fun b1 b2 b3 b4 b5 b6 b7 b8 b9 b10 b11 h9 hm => hk (b1, b2, b3, b4, b5, b6, b7, b8, b9, b10, b11) h9 hm)) (a1, a2, a3, a4, a5, a6, a7, a8, a9, a10, a11) h
theorem lp12 {A1 A2 A3 A4 A5 A6 A7 A8 A9 A10 A11 A12 : Type} (W : Nat → A1 → A2 → A3 → A4 → A5 → A6 → A7 → A8 → A9 → A10 → A11 → A12 → Prop) (I : A1 → A2 → A3 → A4 → A5 → A6 → A7 → A8 → A9 → A10 → A11 → A12 → Prop) (μ : A1 → A2 → A3 → A4 → A5 → A6 → A7 → A8 → A9 → A10 → A11 → A12 → Nat) (hs : ∀ (n : Nat) (a1 : A1) (a2 : A2) (a3 : A3) (a4 : A4) (a5 : A5) (a6 : A6) (a7 : A7) (a8 : A8) (a9 : A9) (a10 : A10) (a11 : A11) (a12 : A12), I a1 a2 a3 a4 a5 a6 a7 a8 a9 a10 a11 a12 → (∀ (b1 : A1) (b2 : A2) (b3 : A3) (b4 : A4) (b5 : A5) (b6 : A6) (b7 : A7) (b8 : A8) (b9 : A9) (b10 : A10) (b11 : A11) (b12 : A12), I b1 b2 b3 b4 b5 b6 b7 b8 b9 b10 b11 b12 → μ b1 b2 b3 b4 b5 b6 b7 b8 b9 b10 b11 b12 < μ a1 a2 a3 a4 a5 a6 a7 a8 a9 a10 a11 a12 → W n b1 b2 b3 b4 b5 b6 b7 b8 b9 b10 b11 b12) → W (n + 1) a1 a2 a3 a4 a5 a6 a7 a8 a9 a10 a11 a12) (a1 : A1) (a2 : A2) (a3 : A3) (a4 : A4) (a5 : A5) (a6 : A6) (a7 : A7) (a8 : A8) (a9 : A9) (a10 : A10) (a11 : A11) (a12 : A12) (h : I a1 a2 a3 a4 a5 a6 a7 a8 a9 a10 a11 a12) : ∃ n, W n a1 a2 a3 a4 a5 a6 a7 a8 a9 a10 a11 a12 :=
  loop_m (σ := A1 × A2 × A3 × A4 × A5 × A6 × A7 × A8 × A9 × A10 × A11 × A12) (fun n s => W n s.1 s.2.1 s.2.2.1 s.2.2.2.1 s.2.2.2.2.1 s.2.2.2.2.2.1 s.2.2.2.2.2.2.1 s.2.2.2.2.2.2.2.1 s.2.2.2.2.2.2.2.2.1 s.2.2.2.2.2.2.2.2.2.1 s.2.2.2.2.2.2.2.2.2.2.1 s.2.2.2.2.2.2.2.2.2.2.2) (fun s => I s.1 s.2.1 s.2.2.1 s.2.2.2.1 s.2.2.2.2.1 s.2.2.2.2.2.1 s.2.2.2.2.2.2.1 s.2.2.2.2.2.2.2.1 s.2.2.2.2.2.2.2.2.1 s.2.2.2.2.2.2.2.2.2.1 s.2.2.2.2.2.2.2.2.2.2.1 s.2.2.2.2.2.2.2.2.2.2.2) (fun s => μ s.1 s.2.1 s.2.2.1 s.2.2.2.1 s.2.2.2.2.1 s.2.2.2.2.2.1 s.2.2.2.2.2.2.1 s.2.2.2.2.2.2.2.1 s.2.2.2.2.2.2.2.2.1 s.2.2.2.2.2.2.2.2.2.1 s.2.2.2.2.2.2.2.2.2.2.1 s.2.2.2.2.2.2.2.2.2.2.2) (fun n s hI hk => hs n s.1 s.2.1 s.2.2.1 s.2.2.2.1 s.2.2.2.2.1 s.2.2.2.2.2.1 s.2.2.2.2.2.2.1 s.2.2.2.2.2.2.2.1 s.2.2.2.2.2.2.2.2.1 s.2.2.2.2.2.2.2.2.2.1 s.2.2.2.2.2.2.2.2.2.2.1 s.2.2.2.2.2.2.2.2.2.2.2 hI (fun b1 b2 b3 b4 b5 b6 b7 b8 b9 b10 b11 b12 h9 hm => hk (b1, b2, b3, b4, b5, b6, b7, b8, b9, b10, b11, b12) h9 hm)) (a1, a2, a3, a4, a5, a6, a7, a8, a9, a10, a11, a12) h
theorem lp13 {A1 A2 A3 A4 A5 A6 A7 A8 A9 A10 A11 A12 A13 : Type} (W : Nat → A1 → A2 → A3 → A4 → A5 → A6 → A7 → A8 → A9 → A10 → A11 → A12 → A13 → Prop) (I : A1 → A2 → A3 → A4 → A5 → A6 → A7 → A8 → A9 → A10 → A11 → A12 → A13 → Prop) (μ : A1 → A2 → A3 → A4 → A5 → A6 → A7 → A8 → A9 → A10 → A11 → A12 → A13 → Nat) (hs : ∀ (n : Nat) (a1 : A1) (a2 : A2) (a3 : A3) (a4 : A4) (a5 : A5) (a6 : A6) (a7 : A7) (a8 : A8) (a9 : A9) (a10 : A10) (a11 : A11) (a12 : A12) (a13 : A13), I a1 a2 a3 a4 a5 a6 a7 a8 a9 a10 a11 a12 a13 → (∀ (b1 : A1) (b2 : A2) (b3 : A3) (b4 : A4) (b5 : A5) (b6 : A6) (b7 : A7) (b8 : A8) (b9 : A9) (b10 : A10) (b11 : A11) (b12 : A12) (b13 : A13), I b1 b2 b3 b4 b5 b6 b7 b8 b9 b10 b11 b12 b13 → μ b1 b2 b3 b4 b5 b6 b7 b8 b9 b10 b11 b12 b13 < μ a1 a2 a3 a4 a5 a6 a7 a8 a9 a10 a11 a12 a13 → W n b1 b2 b3 b4 b5 b6 b7 b8 b9 b10 b11 b12 b13) → W (n + 1) a1 a2 a3 a4 a5 a6 a7 a8 a9 a10 a11 a12 a13) (a1 : A1) (a2 : A2) (a3 : A3) (a4 : A4) (a5 : A5) (a6 : A6) (a7 : A7) (a8 : A8) (a9 : A9) (a10 : A10) (a11 : A11) (a12 : A12) (a13 : A13) (h : I a1 a2 a3 a4 a5 a6 a7 a8 a9 a10 a11 a12 a13) : ∃ n, W n a1 a2 a3 a4 a5 a6 a7 a8 a9 a10 a11 a12 a13 :=
  loop_m (σ := A1 × A2 × A3 × A4 × A5 × A6 × A7 × A8 × A9 × A10 × A11 × A12 × A13) (fun n s => W n s.1 s.2.1 s.2.2.1 s.2.2.2.1 s.2.2.2.2.1 s.2.2.2.2.2.1 s.2.2.2.2.2.2.1 s.2.2.2.2.2.2.2.1 s.2.2.2.2.2.2.2.2.1 s.2.2.2.2.2.2.2.2.2.1 s.2.2.2.2.2.2.2.2.2.2.1 s.2.2.2.2.2.2.2.2.2.2.2.1 s.2.2.2.2.2.2.2.2.2.2.2.2) (fun s => I s.1 s.2.1 s.2.2.1 s.2.2.2.1 s.2.2.2.2.1 s.2.2.2.2.2.1 s.2.2.2.2.2.2.1 s.2.2.2.2.2.2.2.1 s.2.2.2.2.2.2.2.2.1 s.2.2.2.2.2.2.2.2.2.1 s.2.2.2.2.2.2.2.2.2.2.1 s.2.2.2.2.2.2.2.2.2.2.2.1 s.2.2.2.2.2.2.2.2.2.2.2.2) (fun s => μ s.1 s.2.1 s.2.2.1 s.2.2.2.1 s.2.2.2.2.1 s.2.2.2.2.2.1 s.2.2.2.2.2.2.1 s.2.2.2.2.2.2.2.1 s.2.2.2.2.2.2.2.2.1 s.2.2.2.2.2.2.2.2.2.1 s.2.2.2.2.2.2.2.2.2.2.1 s.2.2.2.2.2.2.2.2.2.2.2.1 s.2.2.2.2.2.2.2.2.2.2.2.2) (fun n s hI hk => hs n s.1 s.2.1 s.2.2.1 s.2.2.2.1 s.2.2.2.2.1 s.2.2.2.2.2.1 s.2.2.2.2.2.2.1 s.2.2.2.2.2.2.2.1 s.2.2.2.2.2.2.2.2.1 s.2.2.2.2.2.2.2.2.2.1 s.2.2.2.2.2.2.2.2.2.2.1 s.2.2.2.2.2.2.2.2.2.2.2.1 s.2.2.2.2.2.2.2.2.2.2.2.2 hI (fun b1 b2 b3 b4 b5 b6 b7 b8 b9 b10 b11 b12 b13 h9 hm => hk (b1, b2, b3, b4, b5, b6, b7, b8, b9, b10, b11, b12, b13) h9 hm)) (a1, a2, a3, a4, a5, a6, a7, a8, a9, a10, a11, a12, a13) h
theorem lp14 {A1 A2 A3 A4 A5 A6 A7 A8 A9 A10 A11 A12 A13 A14 : Type} (W : Nat → A1 → A2 → A3 → A4 → A5 → A6 → A7 → A8 → A9 → A10 → A11 → A12 → A13 → A14 → Prop) (I : A1 → A2 → A3 → A4 → A5 → A6 → A7 → A8 → A9 → A10 → A11 → A12 → A13 → A14 → Prop) (μ : A1 → A2 → A3 → A4 → A5 → A6 → A7 → A8 → A9 → A10 → A11 → A12 → A13 → A14 → Nat) (hs : ∀ (n : Nat) (a1 : A1) (a2 : A2) (a3 : A3) (a4 : A4) (a5 : A5) (a6 : A6) (a7 : A7) (a8 : A8) (a9 : A9) (a10 : A10) (a11 : A11) (a12 : A12) (a13 : A13) (a14 : A14), I a1 a2 a3 a4 a5 a6 a7 a8 a9 a10 a11 a12 a13 a14 → (∀ (b1 : A1) (b2 : A2) (b3 : A3) (b4 : A4) (b5 : A5) (b6 : A6) (b7 : A7) (b8 : A8) (b9 : A9) (b10 : A10) (b11 : A11) (b12 : A12) (b13 : A13) (b14 : A14), I b1 b2 b3 b4 b5 b6 b7 b8 b9 b10 b11 b12 b13 b14 → μ b1 b2 b3 b4 b5 b6 b7 b8 b9 b10 b11 b12 b13 b14 < μ a1 a2 a3 a4 a5 a6 a7 a8 a9 a10 a11 a12 a13 a14 → W n b1 b2 b3 b4 b5 b6 b7 b8 b9 b10 b11 b12 b13 b14) → W (n + 1) a1 a2 a3 a4 a5 a6 a7 a8 a9 a10 a11 a12 a13 a14) (a1 : A1) (a2 : A2) (a3 : A3) (a4 : A4) (a5 : A5) (a6 : A6) (a7 : A7) (a8 : A8) (a9 : A9) (a10 : A10) (a11 : A11) (a12 : A12) (a13 : A13) (a14 : A14) (h : I a1 a2 a3 a4 a5 a6 a7 a8 a9 a10 a11 a12 a13 a14) : ∃ n, W n a1 a2 a3 a4 a5 a6 a7 a8 a9 a10 a11 a12 a13 a14 :=
  loop_m (σ := A1 × A2 × A3 × A4 × A5 × A6 × A7 × A8 × A9 × A10 × A11 × A12 × A13 × A14) (fun n s => W n s.1 s.2.1 s.2.2.1 s.2.2.2.1 s.2.2.2.2.1 s.2.2.2.2.2.1 s.2.2.2.2.2.2.1 s.2.2.2.2.2.2.2.1 s.2.2.2.2.2.2.2.2.1 s.2.2.2.2.2.2.2.2.2.1 s.2.2.2.2.2.2.2.2.2.2.1 s.2.2.2.2.2.2.2.2.2.2.2.1 s.2.2.2.2.2.2.2.2.2.2.2.2.1 s.2.2.2.2.2.2.2.2.2.2.2.2.2) (fun s => I s.1 s.2.1 s.2.2.1 s.2.2.2.1 s.2.2.2.2.1 s.2.2.2.2.2.1 s.2.2.2.2.2.2.1 s.2.2.2.2.2.2.2.1 s.2.2.2.2.2.2.2.2.1 s.2.2.2.2.2.2.2.2.2.1 s.2.2.2.2.2.2.2.2.2.2.1 s.2.2.2.2.2.2.2.2.2.2.2.1 s.2.2.2.2.2.2.2.2.2.2.2.2.1 s.2.2.2.2.2.2.2.2.2.2.2.2.2) (fun s => μ s.1 s.2.1 s.2.2.1 s.2.2.2.1 s.2.2.2.2.1 s.2.2.2.2.2.1 s.2.2.2.2.2.2.1 s.2.2.2.2.2.2.2.1 s.2.2.2.2.2.2.2.2.1 s.2.2.2.2.2.2.2.2.2.1 s.2.2.2.2.2.2.2.2.2.2.1 s.2.2.2.2.2.2.2.2.2.2.2.1 s.2.2.2.2.2.2.2.2.2.2.2.2.1 s.2.2.2.2.2.2.2.2.2.2.2.2.2) (fun n s hI hk => hs n s.1 s.2.1 s.2.2.1 s.2.2.2.1 s.2.2.2.2.1 s.2.2.2.2.2.1 s.2.2.2.2.2.2.1 s.2.2.2.2.2.2.2.1 s.2.2.2.2.2.2.2.2.1 s.2.2.2.2.2.2.2.2.2.1 s.2.2.2.2.2.2.2.2.2.2.1 s.2.2.2.2.2.2.2.2.2.2.2.1 s.2.2.2.2.2.2.2.2.2.2.2.2.1 s.2.2.2.2.2.2.2.2.2.2.2.2.2 hI (fun b1 b2 b3 b4 b5 b6 b7 b8 b9 b10 b11 b12 b13 b14 h9 hm => hk (b1, b2, b3, b4, b5, b6, b7, b8, b9, b10, b11, b12, b13, b14) h9 hm)) (a1, a2, a3, a4, a5, a6, a7, a8, a9, a10, a11, a12, a13, a14) h
theorem lp15 {A1 A2 A3 A4 A5 A6 A7 A8 A9 A10 A11 A12 A13 A14 A15 : Type} (W : Nat → A1 → A2 → A3 → A4 → A5 → A6 → A7 → A8 → A9 → A10 → A11 → A12 → A13 → A14 → A15 → Prop) (I : A1 → A2 → A3 → A4 → A5 → A6 → A7 → A8 → A9 → A10 → A11 → A12 → A13 → A14 → A15 → Prop) (μ : A1 → A2 → A3 → A4 → A5 → A6 → A7 → A8 → A9 → A10 → A11 → A12 → A13 → A14 → A15 → Nat) (hs : ∀ (n : Nat) (a1 : A1) (a2 : A2) (a3 : A3) (a4 : A4) (a5 : A5) (a6 : A6) (a7 : A7) (a8 : A8) (a9 : A9) (a10 : A10) (a11 : A11) (a12 : A12) (a13 : A13) (a14 : A14) (a15 : A15), I a1 a2 a3 a4 a5 a6 a7 a8 a9 a10 a11 a12 a13 a14 a15 → (∀ (b1 : A1) (b2 : A2) (b3 : A3) (b4 : A4) (b5 : A5) (b6 : A6) (b7 : A7) (b8 : A8) (b9 : A9) (b10 : A10) (b11 : A11) (b12 : A12) (b13 : A13) (b14 : A14) (b15 : A15), I b1 b2 b3 b4 b5 b6 b7 b8 b9 b10 b11 b12 b13 b14 b15 → μ b1 b2 b3 b4 b5 b6 b7 b8 b9 b10 b11 b12 b13 b14 b15 < μ a1 a2 a3 a4 a5 a6 a7 a8 a9 a10 a11 a12 a13 a14 a15 → W n b1 b2 b3 b4 b5 b6 b7 b8 b9 b10 b11 b12 b13 b14 b15) → W (n + 1) a1 a2 a3 a4 a5 a6 a7 a8 a9 a10 a11 a12 a13 a14 a15) (a1 : A1) (a2 : A2) (a3 : A3) (a4 : A4) (a5 : A5) (a6 : A6) (a7 : A7) (a8 : A8) (a9 : A9) (a10 : A10) (a11 : A11) (a12 : A12) (a13 : A13) (a14 : A14) (a15 : A15) (h : I a1 a2 a3 a4 a5 a6 a7 a8 a9 a10 a11 a12 a13 a14 a15) : ∃ n, W n a1 a2 a3 a4 a5 a6 a7 a8 a9 a10 a11 a12 a13 a14 a15 :=
  loop_m (σ := A1 × A2 × A3 × A4 × A5 × A6 × A7 × A8 × A9 × A10 × A11 × A12 × A13 × A14 × A15) (fun n s => W n s.1 s.2.1 s.2.2.1 s.2.2.2.1 s.2.2.2.2.1 s.2.2.2.2.2.1 s.2.2.2.2.2.2.1 s.2.2.2.2.2.2.2.1 s.2.2.2.2.2.2.2.2.1 s.2.2.2.2.2.2.2.2.2.1 s.2.2.2.2.2.2.2.2.2.2.1 s.2.2.2.2.2.2.2.2.2.2.2.1 s.2.2.2.2.2.2.2.2.2.2.2.2.1 s.2.2.2.2.2.2.2.2.2.2.2.2.2.1 s.2.2.2.2.2.2.2.2.2.2.2.2.2.2) (fun s => I s.1 s.2.1 s.2.2.1 s.2.2.2.1 s.2.2.2.2.1 s.2.2.2.2.2.1 s.2.2.2.2.2.2.1 s.2.2.2.2.2.2.2.1 s.2.2.2.2.2.2.2.2.1 s.2.2.2.2.2.2.2.2.2.1 s.2.2.2.2.2.2.2.2.2.2.1 s.2.2.2.2.2.2.2.2.2.2.2.1 s.2.2.2.2.2.2.2.2.2.2.2.2.1 s.2.2.2.2.2.2.2.2.2.2.2.2.2.1 s.2.2.2.2.2.2.2.2.2.2.2.2.2.2) (fun s => μ s.1 s.2.1 s.2.2.1 s.2.2.2.1 s.2.2.2.2.1 s.2.2.2.2.2.1 s.2.2.2.2.2.2.1 s.2.2.2.2.2.2.2.1 s.2.2.2.2.2.2.2.2.1 s.2.2.2.2.2.2.2.2.2.1 s.2.2.2.2.2.2.2.2.2.2.1 s.2.2.2.2.2.2.2.2.2.2.2.1 s.2.2.2.2.2.2.2.2.2.2.2.2.1 s.2.2.2.2.2.2.2.2.2.2.2.2.2.1 s.2.2.2.2.2.2.2.2.2.2.2.2.2.2) (fun n s hI hk => hs n s.1 s.2.1 s.2.2.1 s.2.2.2.1 s.2.2.2.2.1 s.2.2.2.2.2.1 s.2.2.2.2.2.2.1 s.2.2.2.2.2.2.2.1 s.2.2.2.2.2.2.2.2.1 s.2.2.2.2.2.2.2.2.2.1 s.2.2.2.2.2.2.2.2.2.2.1 s.2.2.2.2.2.2.2.2.2.2.2.1 s.2.2.2.2.2.2.2.2.2.2.2.2.1 s.2.2.2.2.2.2.2.2.2.2.2.2.2.1 s.2.2.2.2.2.2.2.2.2.2.2.2.2.2 hI (fun b1 b2 b3 b4 b5 b6 b7 b8 b9 b10 b11 b12 b13 b14 b15 h9 hm => hk (b1, b2, b3, b4, b5, b6, b7, b8, b9, b10, b11, b12, b13, b14, b15) h9 hm)) (a1, a2, a3, a4, a5, a6, a7, a8, a9, a10, a11, a12, a13, a14, a15) h
theorem lp16 {A1 A2 A3 A4 A5 A6 A7 A8 A9 A10 A11 A12 A13 A14 A15 A16 : Type} (W : Nat → A1 → A2 → A3 → A4 → A5 → A6 → A7 → A8 → A9 → A10 → A11 → A12 → A13 → A14 → A15 → A16 → Prop) (I : A1 → A2 → A3 → A4 → A5 → A6 → A7 → A8 → A9 → A10 → A11 → A12 → A13 → A14 → A15 → A16 → Prop) (μ : A1 → A2 → A3 → A4 → A5 → A6 → A7 → A8 → A9 → A10 → A11 → A12 → A13 → A14 → A15 → A16 → Nat) (hs : ∀ (n : Nat) (a1 : A1) (a2 : A2) (a3 : A3) (a4 : A4) (a5 : A5) (a6 : A6) (a7 : A7) (a8 : A8) (a9 : A9) (a10 : A10) (a11 : A11) (a12 : A12) (a13 : A13) (a14 : A14) (a15 : A15) (a16 : A16), I a1 a2 a3 a4 a5 a6 a7 a8 a9 a10 a11 a12 a13 a14 a15 a16 → (∀ (b1 : A1) (b2 : A2) (b3 : A3) (b4 : A4) (b5 : A5) (b6 : A6) (b7 : A7) (b8 : A8) (b9 : A9) (b10 : A10) (b11 : A11) (b12 : A12) (b13 : A13) (b14 : A14) (b15 : A15) (b16 : A16), I b1 b2 b3 b4 b5 b6 b7 b8 b9 b10 b11 b12 b13 b14 b15 b16 → μ b1 b2 b3 b4 b5 b6 b7 b8 b9 b10 b11 b12 b13 b14 b15 b16 < μ a1 a2 a3 a4 a5 a6 a7 a8 a9 a10 a11 a12 a13 a14 a15 a16 → W n b1 b2 b3 b4 b5 b6 b7 b8 b9 b10 b11 b12 b13 b14 b15 b16) → W (n + 1) a1 a2 a3 a4 a5 a6 a7 a8 a9 a10 a11 a12 a13 a14 a15 a16) (a1 : A1) (a2 : A2) (a3 : A3) (a4 : A4) (a5 : A5) (a6 : A6) (a7 : A7) (a8 : A8) (a9 : A9) (a10 : A10) (a11 : A11) (a12 : A12) (a13 : A13) (a14 : A14) (a15 : A15) (a16 : A16) (h : I a1 a2 a3 a4 a5 a6 a7 a8 a9 a10 a11 a12 a13 a14 a15 a16) : ∃ n, W n a1 a2 a3 a4 a5 a6 a7 a8 a9 a10 a11 a12 a13 a14 a15 a16 :=
  loop_m (σ := A1 × A2 × A3 × A4 × A5 × A6 × A7 × A8 × A9 × A10 × A11 × A12 × A13 × A14 × A15 × A16) (fun n s => W n s.1 s.2.1 s.2.2.1 s.2.2.2.1 s.2.2.2.2.1 s.2.2.2.2.2.1 s.2.2.2.2.2.2.1 s.2.2.2.2.2.2.2.1 s.2.2.2.2.2.2.2.2.1 s.2.2.2.2.2.2.2.2.2.1 s.2.2.2.2.2.2.2.2.2.2.1 s.2.2.2.2.2.2.2.2.2.2.2.1 s.2.2.2.2.2.2.2.2.2.2.2.2.1 s.2.2.2.2.2.2.2.2.2.2.2.2.2.1 s.2.2.2.2.2.2.2.2.2.2.2.2.2.2.1 s.2.2.2.2.2.2.2.2.2.2.2.2.2.2.2) (fun s => I s.1 s.2.1 s.2.2.1 s.2.2.2.1 s.2.2.2.2.1 s.2.2.2.2.2.1 s.2.2.2.2.2.2.1 s.2.2.2.2.2.2.2.1 s.2.2.2.2.2.2.2.2.1 s.2.2.2.2.2.2.2.2.2.1 s.2.2.2.2.2.2.2.2.2.2.1 s.2.2.2.2.2.2.2.2.2.2.2.1 s.2.2.2.2.2.2.2.2.2.2.2.2.1 s.2.2.2.2.2.2.2.2.2.2.2.2.2.1 s.2.2.2.2.2.2.2.2.2.2.2.2.2.2.1 s.2.2.2.2.2.2.2.2.2.2.2.2.2.2.2) (fun s => μ s.1 s.2.1 s.2.2.1 s.2.2.2.1 s.2.2.2.2.1 s.2.2.2.2.2.1 s.2.2.2.2.2.2.1 s.2.2.2.2.2.2.2.1 s.2.2.2.2.2.2.2.2.1 s.2.2.2.2.2.2.2.2.2.1 s.2.2.2.2.2.2.2.2.2.2.1 s.2.2.2.2.2.2.2.2.2.2.2.1 s.2.2.2.2.2.2.2.2.2.2.2.2.1 s.2.2.2.2.2.2.2.2.2.2.2.2.2.1 s.2.2.2.2.2.2.2.2.2.2.2.2.2.2.1 s.2.2.2.2.2.2.2.2.2.2.2.2.2.2.2) (fun n s hI hk => hs n s.1 s.2.1 s.2.2.1 s.2.2.2.1 s.2.2.2.2.1 s.2.2.2.2.2.1 s.2.2.2.2.2.2.1 s.2.2.2.2.2.2.2.1 s.2.2.2.2.2.2.2.2.1 s.2.2.2.2.2.2.2.2.2.1 s.2.2.2.2.2.2.2.2.2.2.1 s.2.2.2.2.2.2.2.2.2.2.2.1 s.2.2.2.2.2.2.2.2.2.2.2.2.1 s.2.2.2.2.2.2.2.2.2.2.2.2.2.1 s.2.2.2.2.2.2.2.2.2.2.2.2.2.2.1 s.2.2.2.2.2.2.2.2.2.2.2.2.2.2.2 hI (fun b1 b2 b3 b4 b5 b6 b7 b8 b9 b10 b11 b12 b13 b14 b15 b16 h9 hm => hk (b1, b2, b3, b4, b5, b6, b7, b8, b9, b10, b11, b12, b13, b14, b15, b16) h9 hm)) (a1, a2, a3, a4, a5, a6, a7, a8, a9, a10, a11, a12, a13, a14, a15, a16) h
theorem pk_least (P : Nat → Prop) (h : ∃ k, P k) : ∃ k, P k ∧ ∀ j, j < k → ¬ P j := by
  obtain ⟨k, hk⟩ := h
  induction k using Nat.strongRecOn with
  | ind k ih =>
    by_cases e : ∃ j, j < k ∧ P j
    · obtain ⟨j, hj, pj⟩ := e
      exact ih j hj pj
    · exact ⟨k, hk, fun j hj pj => e ⟨j, hj, pj⟩⟩
theorem rp1 {ρ A1 : Type} (W : Nat → (ρ → Prop) → A1 → Prop) (ok : A1 → Prop) (μ : A1 → Nat) (val : A1 → ρ)
    (hs : ∀ (d : Nat) (post : ρ → Prop) (a1 : A1), ok a1 → post (val a1) → (∀ (post' : ρ → Prop) (b1 : A1), ok b1 → μ b1 < μ a1 → post' (val b1) → W d post' b1) → W (d + 1) post a1) :
    ∀ (d : Nat) (post : ρ → Prop) (a1 : A1), ok a1 → μ a1 < d → post (val a1) → W d post a1 := by
  intro d
  induction d with
  | zero => intro post a1 _ h; omega
  | succ d ih =>
    intro post a1 ho hm hp
    exact hs d post a1 ho hp (fun post' b1 ho' hm' hp' => ih post' b1 ho' (by omega) hp')
theorem rp2 {ρ A1 A2 : Type} (W : Nat → (ρ → Prop) → A1 → A2 → Prop) (ok : A1 → A2 → Prop) (μ : A1 → A2 → Nat) (val : A1 → A2 → ρ)
    (hs : ∀ (d : Nat) (post : ρ → Prop) (a1 : A1) (a2 : A2), ok a1 a2 → post (val a1 a2) → (∀ (post' : ρ → Prop) (b1 : A1) (b2 : A2), ok b1 b2 → μ b1 b2 < μ a1 a2 → post' (val b1 b2) → W d post' b1 b2) → W (d + 1) post a1 a2) :
    ∀ (d : Nat) (post : ρ → Prop) (a1 : A1) (a2 : A2), ok a1 a2 → μ a1 a2 < d → post (val a1 a2) → W d post a1 a2 := by
  intro d
  induction d with
  | zero => intro post a1 a2 _ h; omega
  | succ d ih =>
    intro post a1 a2 ho hm hp
    exact hs d post a1 a2 ho hp (fun post' b1 b2 ho' hm' hp' => ih post' b1 b2 ho' (by omega) hp')
theorem rp3 {ρ A1 A2 A3 : Type} (W : Nat → (ρ → Prop) → A1 → A2 → A3 → Prop) (ok : A1 → A2 → A3 → Prop) (μ : A1 → A2 → A3 → Nat) (val : A1 → A2 → A3 → ρ)
    (hs : ∀ (d : Nat) (post : ρ → Prop) (a1 : A1) (a2 : A2) (a3 : A3), ok a1 a2 a3 → post (val a1 a2 a3) → (∀ (post' : ρ → Prop) (b1 : A1) (b2 : A2) (b3 : A3), ok b1 b2 b3 → μ b1 b2 b3 < μ a1 a2 a3 → post' (val b1 b2 b3) → W d post' b1 b2 b3) → W (d + 1) post a1 a2 a3) :
    ∀ (d : Nat) (post : ρ → Prop) (a1 : A1) (a2 : A2) (a3 : A3), ok a1 a2 a3 → μ a1 a2 a3 < d → post (val a1 a2 a3) → W d post a1 a2 a3 := by
  intro d
  induction d with
  | zero => intro post a1 a2 a3 _ h; omega
  | succ d ih =>
    intro post a1 a2 a3 ho hm hp
    exact hs d post a1 a2 a3 ho hp (fun post' b1 b2 b3 ho' hm' hp' => ih post' b1 b2 b3 ho' (by omega) hp')
theorem rp4 {ρ A1 A2 A3 A4 : Type} (W : Nat → (ρ → Prop) → A1 → A2 → A3 → A4 → Prop) (ok : A1 → A2 → A3 → A4 → Prop) (μ : A1 → A2 → A3 → A4 → Nat) (val : A1 → A2 → A3 → A4 → ρ)
    (hs : ∀ (d : Nat) (post : ρ → Prop) (a1 : A1) (a2 : A2) (a3 : A3) (a4 : A4), ok a1 a2 a3 a4 → post (val a1 a2 a3 a4) → (∀ (post' : ρ → Prop) (b1 : A1) (b2 : A2) (b3 : A3) (b4 : A4), ok b1 b2 b3 b4 → μ b1 b2 b3 b4 < μ a1 a2 a3 a4 → post' (val b1 b2 b3 b4) → W d post' b1 b2 b3 b4) → W (d + 1) post a1 a2 a3 a4) :
    ∀ (d : Nat) (post : ρ → Prop) (a1 : A1) (a2 : A2) (a3 : A3) (a4 : A4), ok a1 a2 a3 a4 → μ a1 a2 a3 a4 < d → post (val a1 a2 a3 a4) → W d post a1 a2 a3 a4 := by
  intro d
  induction d with
  | zero => intro post a1 a2 a3 a4 _ h; omega
  | succ d ih =>
    intro post a1 a2 a3 a4 ho hm hp
    exact hs d post a1 a2 a3 a4 ho hp (fun post' b1 b2 b3 b4 ho' hm' hp' => ih post' b1 b2 b3 b4 ho' (by omega) hp')
theorem rp5 {ρ A1 A2 A3 A4 A5 : Type} (W : Nat → (ρ → Prop) → A1 → A2 → A3 → A4 → A5 → Prop) (ok : A1 → A2 → A3 → A4 → A5 → Prop) (μ : A1 → A2 → A3 → A4 → A5 → Nat) (val : A1 → A2 → A3 → A4 → A5 → ρ)
    (hs : ∀ (d : Nat) (post : ρ → Prop) (a1 : A1) (a2 : A2) (a3 : A3) (a4 : A4) (a5 : A5), ok a1 a2 a3 a4 a5 → post (val a1 a2 a3 a4 a5) → (∀ (post' : ρ → Prop) (b1 : A1) (b2 : A2) (b3 : A3) (b4 : A4) (b5 : A5), ok b1 b2 b3 b4 b5 → μ b1 b2 b3 b4 b5 < μ a1 a2 a3 a4 a5 → post' (val b1 b2 b3 b4 b5) → W d post' b1 b2 b3 b4 b5) → W (d + 1) post a1 a2 a3 a4 a5) :
    ∀ (d : Nat) (post : ρ → Prop) (a1 : A1) (a2 : A2) (a3 : A3) (a4 : A4) (a5 : A5), ok a1 a2 a3 a4 a5 → μ a1 a2 a3 a4 a5 < d → post (val a1 a2 a3 a4 a5) → W d post a1 a2 a3 a4 a5 := by
  intro d
  induction d with
  | zero => intro post a1 a2 a3 a4 a5 _ h; omega
  | succ d ih =>
    intro post a1 a2 a3 a4 a5 ho hm hp
    exact hs d post a1 a2 a3 a4 a5 ho hp (fun post' b1 b2 b3 b4 b5 ho' hm' hp' => ih post' b1 b2 b3 b4 b5 ho' (by omega) hp')
theorem rp6 {ρ A1 A2 A3 A4 A5 A6 : Type} (W : Nat → (ρ → Prop) → A1 → A2 → A3 → A4 → A5 → A6 → Prop) (ok : A1 → A2 → A3 → A4 → A5 → A6 → Prop) (μ : A1 → A2 → A3 → A4 → A5 → A6 → Nat) (val : A1 → A2 → A3 → A4 → A5 → A6 → ρ)
    (hs : ∀ (d : Nat) (post : ρ → Prop) (a1 : A1) (a2 : A2) (a3 : A3) (a4 : A4) (a5 : A5) (a6 : A6), ok a1 a2 a3 a4 a5 a6 → post (val a1 a2 a3 a4 a5 a6) → (∀ (post' : ρ → Prop) (b1 : A1) (b2 : A2) (b3 : A3) (b4 : A4) (b5 : A5) (b6 : A6), ok b1 b2 b3 b4 b5 b6 → μ b1 b2 b3 b4 b5 b6 < μ a1 a2 a3 a4 a5 a6 → post' (val b1 b2 b3 b4 b5 b6) → W d post' b1 b2 b3 b4 b5 b6) → W (d + 1) post a1 a2 a3 a4 a5 a6) :
    ∀ (d : Nat) (post : ρ → Prop) (a1 : A1) (a2 : A2) (a3 : A3) (a4 : A4) (a5 : A5) (a6 : A6), ok a1 a2 a3 a4 a5 a6 → μ a1 a2 a3 a4 a5 a6 < d → post (val a1 a2 a3 a4 a5 a6) → W d post a1 a2 a3 a4 a5 a6 := by
  intro d
  induction d with
  | zero => intro post a1 a2 a3 a4 a5 a6 _ h; omega
  | succ d ih =>
    intro post a1 a2 a3 a4 a5 a6 ho hm hp
    exact hs d post a1 a2 a3 a4 a5 a6 ho hp (fun post' b1 b2 b3 b4 b5 b6 ho' hm' hp' => ih post' b1 b2 b3 b4 b5 b6 ho' (by omega) hp')
theorem rec_p {σ ρ : Type} (W : Nat → (ρ → Prop) → σ → Prop) (ok : σ → Prop) (μ : σ → Nat) (val : σ → ρ)
    (hs : ∀ d s post, ok s → post (val s) → (∀ s' post', ok s' → μ s' < μ s → post' (val s') → W d post' s') → W (d + 1) post s) :
    ∀ d s post, ok s → μ s < d → post (val s) → W d post s := by
  intro d
  induction d with
  | zero => intro s post _ h; omega
  | succ d ih =>
    intro s post ho hm hp
    exact hs d s post ho hp (fun s' post' ho' hm' hp' => ih s' post' ho' (by omega) hp')
theorem rec_q {σ ρ : Type} (W : Nat → (ρ → Prop) → σ → Prop) (ok : σ → Prop) (μ : σ → Nat) (Q : σ → ρ → Prop)
    (hs : ∀ d s post, ok s → (∀ r, Q s r → post r) → (∀ s' post', ok s' → μ s' < μ s → (∀ r, Q s' r → post' r) → W d post' s') → W (d + 1) post s) :
    ∀ d s post, ok s → μ s < d → (∀ r, Q s r → post r) → W d post s := by
  intro d
  induction d with
  | zero => intro s post _ h; omega
  | succ d ih =>
    intro s post ho hm hp
    exact hs d s post ho hp (fun s' post' ho' hm' hp' => ih s' post' ho' (by omega) hp')
def bx_sum (f : Nat → Int32) : Nat → Int32
  | 0 => 0
  | n + 1 => bx_sum f n + f n
theorem ek_u {A : Prop} {B : Nat → Prop} {k N : Nat} (hk : k < N) (h : B k) : (some k = none → A) ∧ (∀ y : Nat, some k = some y → (y < N ∧ B y)) :=
  ⟨fun z => absurd z (Option.some_ne_none k), fun _ e => (by cases e; exact ⟨hk, h⟩)⟩
theorem ek_nu {A : Prop} {B : Nat → Prop} (h : A) : ((none : Option Nat) = none → A) ∧ (∀ y : Nat, (none : Option Nat) = some y → B y) :=
  ⟨fun _ => h, fun _ e => (by cases e)⟩
theorem ek_if {c d A B : Prop} (e : c ↔ d) (f : d → A) (g : ¬ d → B) : (c → A) ∧ (¬ c → B) :=
  ⟨fun z => f (e.mp z), fun z => g (fun y => z (e.mpr y))⟩
theorem ek_v {α : Sort _} {P : α → Prop} {a b : α} (e : a = b) (h : P b) : P a := e ▸ h
theorem co_some {x : Option Nat} {A : Prop} {B : Nat → Prop} (i : Nat) (h : B i) (hx : x = some i := by rfl) : (x = none → A) ∧ (∀ y : Nat, x = some y → B y) := by
  subst hx
  exact ⟨fun e => (nomatch e), fun y e => Option.some.inj e ▸ h⟩
theorem co_none {x : Option Nat} {A : Prop} {B : Nat → Prop} (h : A) (hx : x = none := by rfl) : (x = none → A) ∧ (∀ y : Nat, x = some y → B y) := by
  subst hx
  exact ⟨fun _ => h, fun y e => (nomatch e)⟩
theorem co_any {x : Option Nat} {A : Prop} {B : Nat → Prop} (hn : x = none → A) (hs : ∀ i : Nat, x = some i → B i) : (x = none → A) ∧ (∀ y : Nat, x = some y → B y) := ⟨hn, hs⟩
theorem co_2 {P : Nat → Prop} (h0 : P 0) (h1 : P 1) {i : Nat} (hi : i < 2) : P i :=
  match i, hi with
  | 0, _ => h0
  | 1, _ => h1
theorem co_3 {P : Nat → Prop} (h0 : P 0) (h1 : P 1) (h2 : P 2) {i : Nat} (hi : i < 3) : P i :=
  match i, hi with
  | 0, _ => h0
  | 1, _ => h1
  | 2, _ => h2
theorem co_4 {P : Nat → Prop} (h0 : P 0) (h1 : P 1) (h2 : P 2) (h3 : P 3) {i : Nat} (hi : i < 4) : P i :=
  match i, hi with
  | 0, _ => h0
  | 1, _ => h1
  | 2, _ => h2
  | 3, _ => h3
theorem co_dec {N : Nat} {P : Nat → Prop} [DecidablePred P] (h : (List.range N).all (fun i => decide (P i)) = true) {i : Nat} (hi : i < N) : P i := by
  have := List.all_eq_true.mp h i (List.mem_range.mpr hi)
  exact of_decide_eq_true this
theorem co_tab {α : Type} {l : List α} {d : α} {P : α → Prop} (h : ∀ a, a ∈ l → P a) {i : Nat} (hi : i < l.length) : P (l.getD i d) := by
  rw [List.getD_eq_getElem?_getD, List.getElem?_eq_getElem hi]
  exact h _ (List.getElem_mem hi)
theorem pk_mu {x : Int32} {L : Nat} (h0 : ¬ x < 0) (h : ¬ nI L ≤ x) (hL : L < 2 ^ 31) : ∃ j : Nat, j < L ∧ x = nI j ∧ x + 1 = nI (j + 1) ∧ x.toNatClampNeg = j ∧ L - (x + 1).toNatClampNeg < L - x.toNatClampNeg := by
  obtain ⟨j, hj, rfl⟩ := nI_of h0
  have hl : j < L := Nat.not_le.mp fun q => h (nI_le q hj)
  refine ⟨j, hl, rfl, nI_1 j, nI_clamp hj, ?_⟩
  rw [nI_1, nI_clamp (by omega), nI_clamp hj]
  omega
theorem op_s {α : Type} {r : Option α} {A : Prop} {B : α → Prop} {y : α} (h : r = some y) (b : B y) : (r = none → A) ∧ ∀ z, r = some z → B z :=
  ⟨fun e => (by rw [h] at e; cases e), fun z e => (by rw [h] at e; cases e; exact b)⟩
def l_holds {α : Type} (a : Nat → Option Nat) (LP : List Nat) (p : Nat → α) (c : Nat) (b : Nat → α) : Prop :=
  ∀ j, j < c → ∃ y, a j = some y ∧ y ∈ LP ∧ p y = b j
theorem l_holds_0 {α : Type} {a : Nat → Option Nat} {LP : List Nat} {p b : Nat → α} : l_holds a LP p 0 b := fun j h => absurd h (Nat.not_lt_zero j)
theorem l_in_new (LP : List Nat) (q : Nat) : q ∈ LP ++ [q] := List.mem_append.mpr (Or.inr (List.mem_singleton.mpr rfl))
def l_sum (b : Nat → Int32) : Nat → Int32
  | 0 => 0
  | k + 1 => l_sum b k + b k
theorem sb_shr0 (x : Int32) : x >>> ((0 : Int32) &&& 31) = x := by
  rw [show ((0 : Int32) &&& 31) = 0 by decide]
  simp
theorem sb_shl0 (x : Int32) : x <<< ((0 : Int32) &&& 31) = x := by
  rw [show ((0 : Int32) &&& 31) = 0 by decide]
  simp
theorem sb_cl0 : (0 : Int32).toNatClampNeg = 0 := by decide
theorem sb_m1 {p : Nat} (h : 0 < p) : nI p + (-1) = nI (p - 1) := by
  obtain ⟨q, rfl⟩ : ∃ q, p = q + 1 := ⟨p - 1, by omega⟩
  exact pk_m1 q
def sb_b (c : Nat) : Int32 := (nI c).toInt8.toInt32
theorem sb_byte : ∀ c, c < 256 → sb_b c &&& 255 = nI c ∧ ((nI c).toUInt32 % 65536).toInt32 = nI c ∧ nI c ≤ 255 := by decide +kernel
def sb_Fit (a : Nat → Int32) : Prop := ∀ j, fits .byte (.int (a j)) = true
def sb_Lat (t : Nat → Nat) (n : Nat) (a : Nat → Int32) : Prop := ∀ j, j < n → t j < 256 ∧ a j = sb_b (t j)
theorem sb_fitB (c : Nat) : fits .byte (.int (sb_b c)) = true := pk_fb _
theorem sb_fit0 : sb_Fit (fun _ => 0) := fun _ => by
  show fits .byte (.int 0) = true
  decide
theorem sb_fitU {a : Nat → Int32} {k : Nat} {x : Int32} (h : sb_Fit a) (hx : fits .byte (.int x) = true) : sb_Fit (upd a k x) := by
  intro j
  by_cases e : j = k
  · subst e
    rw [pk_us]
    exact hx
  · rw [pk_un e]
    exact h j
def sb_cat (t : Nat → Nat) (n : Nat) (s : Nat → Nat) : Nat → Nat := fun j => if j < n then t j else s (j - n)
theorem sb_cat_lo {t s : Nat → Nat} {n j : Nat} (h : j < n) : sb_cat t n s j = t j := if_pos h
theorem sb_cat_hi {t s : Nat → Nat} {n j : Nat} : sb_cat t n s (n + j) = s j := by
  show (if n + j < n then t (n + j) else s (n + j - n)) = s j
  rw [if_neg (by omega), Nat.add_sub_cancel_left]
theorem sb_latPut {t s : Nat → Nat} {n w : Nat} {a a' : Nat → Int32} (h : sb_Lat t n a) (hk : ∀ j, j < n → a' j = a j) (hs : ∀ i, i < w → s i < 256 ∧ a' (n + i) = sb_b (s i)) : sb_Lat (sb_cat t n s) (n + w) a' := by
  intro j hj
  by_cases e : j < n
  · rw [sb_cat_lo e, hk j e]
    exact h j e
  · obtain ⟨i, rfl⟩ : ∃ i, j = n + i := ⟨j - n, by omega⟩
    rw [sb_cat_hi]
    exact hs i (by omega)
theorem sb_latKeep {t : Nat → Nat} {n : Nat} {a a' : Nat → Int32} (h : sb_Lat t n a) (hk : ∀ j, j < n → a' j = a j) : sb_Lat t n a' := fun j hj => by
  rw [hk j hj]
  exact h j hj
def sb_cap (q m : Nat) : Nat := if q ≤ m then m else if 2 * m + 2 < q then q else 2 * m + 2
def sb_Room (q m mc ms : Nat) : Prop := q ≤ m ∨ (1 ≤ mc ∧ sb_cap q m ≤ ms ∧ sb_cap q m ≤ 65536)
theorem sb_cap_ge (q m : Nat) : q ≤ sb_cap q m := by
  unfold sb_cap
  split
  · omega
  · split <;> omega
theorem sb_cap_gem (q m : Nat) : m ≤ sb_cap q m := by
  unfold sb_cap
  split
  · omega
  · split <;> omega
theorem sb_cap_le {q m mc ms : Nat} (hm : m ≤ 65536) (hr : sb_Room q m mc ms) : sb_cap q m ≤ 65536 := by
  rcases hr with h | h
  · rw [sb_cap, if_pos h]
    exact hm
  · exact h.2.2
theorem sb_at {P : Int32 → Prop} {x y : Int32} (e : x = y) (h : P y) : P x := e ▸ h
def sb_dg (w : Nat) : Nat := if w < 10 then 1 else if w < 100 then 2 else if w < 1000 then 3 else if w < 10000 then 4 else if w < 100000 then 5 else if w < 1000000 then 6 else if w < 10000000 then 7 else if w < 100000000 then 8 else if w < 1000000000 then 9 else 10
def sb_dec (v : Nat) : Nat → Nat := fun i => 48 + v / 10 ^ (sb_dg v - 1 - i) % 10
theorem sb_dg_in (w : Nat) : 1 ≤ sb_dg w ∧ sb_dg w ≤ 10 := by
  unfold sb_dg
  constructor <;> (repeat' split) <;> omega
theorem sb_dg100 {w : Nat} (h : 100 ≤ w) (hw : w < 2 ^ 31) : sb_dg w = sb_dg (w / 100) + 2 := by
  rw [sb_dg, sb_dg, if_neg (show ¬ w < 10 by omega), if_neg (show ¬ w < 100 by omega)]
  by_cases h3 : w < 1000
  · rw [if_pos h3, if_pos (show w / 100 < 10 by omega)]
  rw [if_neg h3, if_neg (show ¬ w / 100 < 10 by omega)]
  by_cases h4 : w < 10000
  · rw [if_pos h4, if_pos (show w / 100 < 100 by omega)]
  rw [if_neg h4, if_neg (show ¬ w / 100 < 100 by omega)]
  by_cases h5 : w < 100000
  · rw [if_pos h5, if_pos (show w / 100 < 1000 by omega)]
  rw [if_neg h5, if_neg (show ¬ w / 100 < 1000 by omega)]
  by_cases h6 : w < 1000000
  · rw [if_pos h6, if_pos (show w / 100 < 10000 by omega)]
  rw [if_neg h6, if_neg (show ¬ w / 100 < 10000 by omega)]
  by_cases h7 : w < 10000000
  · rw [if_pos h7, if_pos (show w / 100 < 100000 by omega)]
  rw [if_neg h7, if_neg (show ¬ w / 100 < 100000 by omega)]
  by_cases h8 : w < 100000000
  · rw [if_pos h8, if_pos (show w / 100 < 1000000 by omega)]
  rw [if_neg h8, if_neg (show ¬ w / 100 < 1000000 by omega)]
  by_cases h9 : w < 1000000000
  · rw [if_pos h9, if_pos (show w / 100 < 10000000 by omega)]
  rw [if_neg h9, if_neg (show ¬ w / 100 < 10000000 by omega)]
  rw [if_pos (show w / 100 < 100000000 by omega)]
theorem sb_negT {w : Nat} (h : w < 2 ^ 31) : (-nI w).toInt = -(w : Int) := by
  rw [Int32.toInt_neg, nI_toInt h]
  exact Int.bmod_eq_of_le (by omega) (by omega)
theorem sb_nle {a b : Nat} (ha : a < 2 ^ 31) (hb : b < 2 ^ 31) : -nI a ≤ -nI b ↔ b ≤ a := by
  rw [Int32.le_iff_toInt_le, sb_negT ha, sb_negT hb]
  omega
theorem sb_nlt {a b : Nat} (ha : a < 2 ^ 31) (hb : b < 2 ^ 31) : -nI a < -nI b ↔ b < a := by
  rw [Int32.lt_iff_toInt_lt, sb_negT ha, sb_negT hb]
  omega
theorem sb_cmp {A B : Prop} {x : Int32} (v c : Nat) (f : c ≤ v → A) (g : v < c → B) (hv : v < 2 ^ 31) (hx : x = -nI c := by rfl) (hc : c < 2 ^ 31 := by omega) : (-nI v ≤ x → A) ∧ (¬ -nI v ≤ x → B) := by
  subst hx
  rw [sb_nle hv hc]
  exact ⟨f, fun z => g (by omega)⟩
theorem sb_ndiv {w : Nat} (hw : w < 2 ^ 31) : (-nI w) / 100 = -nI (w / 100) := by
  apply Int32.toInt_inj.mp
  have h100 : (100 : Int32).toInt = 100 := by decide
  rw [Int32.toInt_div, sb_negT hw, h100, sb_negT (by omega), Int.neg_tdiv, Int.tdiv_eq_ediv_of_nonneg (by omega), Int.bmod_eq_of_le (by omega) (by omega)]
  omega
theorem sb_nrem {w : Nat} (hw : w < 2 ^ 31) : (-nI (w / 100)) * 100 - (-nI w) = nI (w % 100) := by
  have h := pk_rem (a := w) (d := 100) hw (by decide) (by decide)
  rw [pk_div hw (by decide) (by decide)] at h
  rw [← h]
  show (-nI (w / 100)) * nI 100 - (-nI w) = nI w - nI (w / 100) * nI 100
  rw [Int32.neg_mul, Int32.sub_neg, Int32.add_comm, ← Int32.sub_eq_add_neg]
end
section
/-! ===== Int32 by its bits: bt x i ===== -/
def bt (x : Int32) (i : Nat) : Bool := x.toBitVec.getLsbD i
theorem b_ext {x y : Int32} (h : ∀ i, i < 32 → bt x i = bt y i) : x = y := Int32.toBitVec_inj.mp (BitVec.eq_of_getLsbD_eq (fun i hi => h i hi))
theorem b_or (x y : Int32) (i : Nat) : bt (x ||| y) i = (bt x i || bt y i) := by unfold bt; rw [Int32.toBitVec_or, BitVec.getLsbD_or]
theorem b_and (x y : Int32) (i : Nat) : bt (x &&& y) i = (bt x i && bt y i) := by unfold bt; rw [Int32.toBitVec_and, BitVec.getLsbD_and]
theorem b_xor (x y : Int32) (i : Nat) : bt (x ^^^ y) i = (bt x i ^^ bt y i) := by unfold bt; rw [Int32.toBitVec_xor, BitVec.getLsbD_xor]
theorem b_big {x : Int32} {i : Nat} (h : 32 ≤ i) : bt x i = false := BitVec.getLsbD_of_ge _ _ h
theorem b_255 (i : Nat) : bt 255 i = decide (i < 8) := by
  rcases Nat.lt_or_ge i 32 with h | h
  · exact (by decide +kernel : ∀ i, i < 32 → bt 255 i = decide (i < 8)) i h
  · rw [b_big h, decide_eq_false (by omega)]
theorem b_65535 (i : Nat) : bt 65535 i = decide (i < 16) := by
  rcases Nat.lt_or_ge i 32 with h | h
  · exact (by decide +kernel : ∀ i, i < 32 → bt 65535 i = decide (i < 16)) i h
  · rw [b_big h, decide_eq_false (by omega)]
theorem b_m1 : ∀ i, i < 32 → bt (-1) i = true := by decide +kernel
theorem b_0 (i : Nat) : bt 0 i = false := BitVec.getLsbD_zero
theorem s_l : ∀ n, n < 32 → ((nI n &&& 31).toBitVec.smod 32).toNat = n := by decide +kernel
theorem s_u : ∀ n, n < 32 → (((nI n).toUInt32 &&& Int32.toUInt32 31).toBitVec % 32).toNat = n := by decide +kernel
theorem b_shl (n : Nat) (hn : n < 32) (x : Int32) {i : Nat} (hi : i < 32) : bt (x <<< (nI n &&& 31)) i = (decide (n ≤ i) && bt x (i - n)) := by
  unfold bt
  rw [Int32.toBitVec_shiftLeft]
  show (x.toBitVec <<< ((nI n &&& 31).toBitVec.smod 32).toNat).getLsbD i = _
  rw [s_l n hn, BitVec.getLsbD_shiftLeft]
  rcases Nat.lt_or_ge i n with h | h
  · simp [h, Nat.not_le.mpr h]
  · simp [hi, h, Nat.not_lt.mpr h]
theorem b_ushr (n : Nat) (hn : n < 32) (x : Int32) (i : Nat) : bt ((x.toUInt32 >>> ((nI n).toUInt32 &&& Int32.toUInt32 31)).toInt32) i = bt x (n + i) := by
  show (x.toUInt32 >>> ((nI n).toUInt32 &&& Int32.toUInt32 31)).toBitVec.getLsbD i = x.toUInt32.toBitVec.getLsbD (n + i)
  rw [UInt32.toBitVec_shiftRight]
  show (x.toUInt32.toBitVec >>> (((nI n).toUInt32 &&& Int32.toUInt32 31).toBitVec % 32).toNat).getLsbD i = _
  rw [s_u n hn, BitVec.getLsbD_ushiftRight]
theorem b_sshr (n : Nat) (hn : n < 32) (x : Int32) {i : Nat} (hi : i < 32) : bt (x >>> (nI n &&& 31)) i = if n + i < 32 then bt x (n + i) else bt x 31 := by
  unfold bt
  rw [Int32.toBitVec_shiftRight]
  show (x.toBitVec.sshiftRight ((nI n &&& 31).toBitVec.smod 32).toNat).getLsbD i = _
  rw [s_l n hn, BitVec.getLsbD_sshiftRight, BitVec.msb_eq_getLsbD_last]
  simp [hi]
theorem b_shl8 (x : Int32) {i : Nat} (hi : i < 32) : bt (x <<< ((8 : Int32) &&& 31)) i = (decide (8 ≤ i) && bt x (i - 8)) := b_shl 8 (by omega) x hi
theorem b_shl16 (x : Int32) {i : Nat} (hi : i < 32) : bt (x <<< ((16 : Int32) &&& 31)) i = (decide (16 ≤ i) && bt x (i - 16)) := b_shl 16 (by omega) x hi
theorem b_shl24 (x : Int32) {i : Nat} (hi : i < 32) : bt (x <<< ((24 : Int32) &&& 31)) i = (decide (24 ≤ i) && bt x (i - 24)) := b_shl 24 (by omega) x hi
theorem b_sshr8 (x : Int32) {i : Nat} (hi : i < 32) : bt (x >>> ((8 : Int32) &&& 31)) i = if 8 + i < 32 then bt x (8 + i) else bt x 31 := b_sshr 8 (by omega) x hi
end
section
/-! ===== arrays of naturals ===== -/
def ls_f (P : Nat → Nat) : Nat → Int32 := fun n => nI (P n)
def ls_u (P : Nat → Nat) (k x : Nat) : Nat → Nat := fun j => if j = k then x else P j
theorem ls_us {P : Nat → Nat} {k x : Nat} : ls_u P k x k = x := if_pos rfl
theorem ls_un {P : Nat → Nat} {k x j : Nat} (h : j ≠ k) : ls_u P k x j = P j := if_neg h
theorem ls_uf {P : Nat → Nat} {k x : Nat} {y : Int32} (e : y = nI x) : upd (ls_f P) k y = ls_f (ls_u P k x) := by
  subst e
  funext j
  unfold upd ls_f ls_u
  by_cases h : j = k
  · rw [if_pos h, if_pos h]
  · rw [if_neg h, if_neg h]
theorem ls_f0 : (fun _ => 0 : Nat → Int32) = ls_f (fun _ => 0) := rfl
/-! ===== bytes of a word ===== -/
def ls_gb (x : Int32) (i : Nat) : Nat := x.toBitVec.toNat / 2 ^ (8 * i) % 256
theorem ls_gb_lt (x : Int32) (i : Nat) : ls_gb x i < 256 := Nat.mod_lt _ (by decide)
theorem ls_gb0 (i : Nat) : ls_gb 0 i = 0 := by
  unfold ls_gb
  rw [show (0 : Int32).toBitVec.toNat = 0 from by decide, Nat.zero_div]
theorem ls_8 {j : Nat} : nI j * 8 = nI (8 * j) := by
  rw [show (8 : Int32) = nI 8 from rfl, pk_mul, Nat.mul_comm]
theorem ls_a3 {i : Nat} (hi : i < 2 ^ 31) : nI i &&& 3 = nI (i % 4) := pk_andN (k := 2) (by omega) (by decide)
theorem ls_a3' {i : Nat} (hi : i < 4) : nI i &&& 3 = nI i := by
  rw [ls_a3 (by omega), Nat.mod_eq_of_lt hi]
theorem ls_gbE (x : Int32) {i : Nat} (hi : i < 4) : ((x.toUInt32 >>> (((nI i &&& 3) * 8).toUInt32 &&& Int32.toUInt32 31)).toInt32) &&& 255 = nI (ls_gb x i) := by
  rw [ls_a3' hi, ls_8, pk_and _ 8 (by decide), pk_ushr x (nI (8 * i)) (8 * i) (s_u (8 * i) (by omega))]
  rfl
def ls_sb (x : Int32) (i v : Nat) : Int32 := (x &&& (((255 : Int32) <<< (nI (8 * i) &&& 31)) ^^^ (-1))) ||| ((nI v &&& 255) <<< (nI (8 * i) &&& 31))
theorem ls_gb_tb (x : Int32) (i t : Nat) : (ls_gb x i).testBit t = (decide (t < 8) && bt x (8 * i + t)) := by
  unfold ls_gb bt
  rw [show 256 = 2 ^ 8 from rfl, Nat.testBit_mod_two_pow, Nat.testBit_div_two_pow, BitVec.testBit_toNat, Nat.add_comm t]
theorem ls_btn {v t : Nat} (ht : t < 32) : bt (nI v) t = v.testBit t := by
  unfold bt
  show (BitVec.ofNat 32 v).getLsbD t = _
  rw [BitVec.getLsbD_ofNat]
  simp [ht]
theorem ls_sb_bt (x : Int32) {i v m : Nat} (hi : i < 4) (hm : m < 32) : bt (ls_sb x i v) m = ((bt x m && !(decide (8 * i ≤ m) && decide (m - 8 * i < 8))) || (decide (8 * i ≤ m) && (v.testBit (m - 8 * i) && decide (m - 8 * i < 8)))) := by
  unfold ls_sb
  rw [b_or, b_and, b_xor, b_shl _ (by omega) _ hm, b_shl _ (by omega) _ hm, b_m1 m hm, b_and, b_255, ls_btn (by omega), Bool.xor_true]
theorem ls_gbs (x : Int32) {i j v : Nat} (hi : i < 4) (hj : j < 4) (hv : v < 256) : ls_gb (ls_sb x i v) j = if j = i then v else ls_gb x j := by
  apply Nat.eq_of_testBit_eq
  intro t
  rw [ls_gb_tb]
  by_cases ht : t < 8
  · rw [ls_sb_bt x hi (by omega)]
    by_cases e : j = i
    · subst e
      rw [if_pos rfl, show 8 * j + t - 8 * j = t from by omega]
      simp [ht]
    · rw [if_neg e, ls_gb_tb]
      by_cases l : j < i
      · rw [decide_eq_false (p := 8 * i ≤ 8 * j + t) (by omega)]
        simp
      · rw [decide_eq_false (p := 8 * j + t - 8 * i < 8) (by omega)]
        simp
  · rw [decide_eq_false ht, Bool.false_and]
    by_cases e : j = i
    · rw [if_pos e]
      exact (Nat.testBit_lt_two_pow (Nat.lt_of_lt_of_le hv (by rw [show 256 = 2 ^ 8 from rfl]; exact Nat.pow_le_pow_right (by decide) (by omega)))).symm
    · rw [if_neg e, ls_gb_tb, decide_eq_false ht, Bool.false_and]
theorem ls_gbs_s (x : Int32) {i v : Nat} (hi : i < 4) (hv : v < 256) : ls_gb (ls_sb x i v) i = v := by
  rw [ls_gbs x hi hi hv, if_pos rfl]
theorem ls_gbs_n (x : Int32) {i j v : Nat} (hi : i < 4) (hj : j < 4) (hv : v < 256) (h : j ≠ i) : ls_gb (ls_sb x i v) j = ls_gb x j := by
  rw [ls_gbs x hi hj hv, if_neg h]
/-! ===== headers and masks ===== -/
def ls_hd (p g s : Nat) : Nat := 512 * p + 32 * g + s
theorem ls_hdE : ∀ p, p < 2 → ∀ g, g < 16 → ∀ s, s < 32 → ((nI p <<< ((9 : Int32) &&& 31)) ||| (nI g <<< ((5 : Int32) &&& 31))) ||| nI s = nI (ls_hd p g s) := by decide +kernel
theorem ls_hdP {p g s : Nat} (hp : p < 2) (hg : g < 16) (hs : s < 32) : (nI (ls_hd p g s) >>> ((9 : Int32) &&& 31)) &&& 1 = nI p := by
  unfold ls_hd
  rw [pk_shrN (by omega) _ 9 (by decide), pk_andN (k := 1) (by omega) (by decide)]
  exact congrArg nI (by omega)
theorem ls_hdG {p g s : Nat} (hp : p < 2) (hg : g < 16) (hs : s < 32) : (nI (ls_hd p g s) >>> ((5 : Int32) &&& 31)) &&& 15 = nI g := by
  unfold ls_hd
  rw [pk_shrN (by omega) _ 5 (by decide), pk_andN (k := 4) (by omega) (by decide)]
  exact congrArg nI (by omega)
theorem ls_hdS {p g s : Nat} (hp : p < 2) (hg : g < 16) (hs : s < 32) : nI (ls_hd p g s) &&& 31 = nI s := by
  unfold ls_hd
  rw [pk_andN (k := 5) (by omega) (by decide)]
  exact congrArg nI (by omega)
def ls_mk (a b : Nat) : Int32 := ((1 : Int32) <<< (nI a &&& 31)) ||| ((1 : Int32) <<< (nI b &&& 31))
theorem ls_mkE : ∀ a, a < 8 → ∀ b, b < 8 → ∀ f, f < 8 → ((((ls_mk a b) >>> (nI f &&& 31)) &&& 1) = 0 ↔ (f ≠ a ∧ f ≠ b)) := by decide +kernel
/-! ===== counting ===== -/
noncomputable def ls_cn (p : Nat → Prop) : Nat → Nat
  | 0 => 0
  | n + 1 => ls_cn p n + @ite Nat (p n) (Classical.propDecidable (p n)) 1 0
theorem ls_cn_t {p : Nat → Prop} {n : Nat} (h : p n) : ls_cn p (n + 1) = ls_cn p n + 1 := by
  show ls_cn p n + _ = _
  rw [if_pos h]
theorem ls_cn_f {p : Nat → Prop} {n : Nat} (h : ¬ p n) : ls_cn p (n + 1) = ls_cn p n := by
  show ls_cn p n + _ = _
  rw [if_neg h]
  rfl
theorem ls_cn_or {p q r : Nat → Prop} : ∀ N, (∀ n, n < N → p n → q n ∨ r n) → ls_cn p N ≤ ls_cn q N + ls_cn r N := by
  intro N
  induction N with
  | zero => intro _; exact Nat.le_refl 0
  | succ N ih =>
    intro h
    have a := ih (fun n hn => h n (by omega))
    have b : ls_cn q N ≤ ls_cn q (N + 1) := Nat.le_add_right _ _
    have c : ls_cn r N ≤ ls_cn r (N + 1) := Nat.le_add_right _ _
    by_cases hp : p N
    · rw [ls_cn_t hp]
      rcases h N (by omega) hp with hq | hr
      · rw [ls_cn_t hq]; omega
      · rw [ls_cn_t hr]; omega
    · rw [ls_cn_f hp]; omega
theorem ls_cn_F : ∀ N, ls_cn (fun _ => False) N = 0 := by
  intro N
  induction N with
  | zero => rfl
  | succ N ih => rw [ls_cn_f (fun h => h), ih]
theorem ls_cn_le {p q : Nat → Prop} (N : Nat) (h : ∀ n, n < N → p n → q n) : ls_cn p N ≤ ls_cn q N := by
  have := ls_cn_or (r := fun _ => False) N (fun n hn hp => Or.inl (h n hn hp))
  rw [ls_cn_F] at this
  omega
theorem ls_cn_cg {p q : Nat → Prop} (N : Nat) (h : ∀ n, n < N → (p n ↔ q n)) : ls_cn p N = ls_cn q N :=
  Nat.le_antisymm (ls_cn_le N (fun n hn => (h n hn).mp)) (ls_cn_le N (fun n hn => (h n hn).mpr))
theorem ls_cn_dis {p q r : Nat → Prop} : ∀ N, (∀ n, n < N → p n → r n ∧ ¬ q n) → (∀ n, n < N → q n → r n) → ls_cn p N + ls_cn q N ≤ ls_cn r N := by
  intro N
  induction N with
  | zero => intro _ _; exact Nat.le_refl 0
  | succ N ih =>
    intro h1 h2
    have a := ih (fun n hn => h1 n (by omega)) (fun n hn => h2 n (by omega))
    by_cases hp : p N
    · have hh := h1 N (by omega) hp
      rw [ls_cn_t hp, ls_cn_f hh.2, ls_cn_t hh.1]; omega
    · rw [ls_cn_f hp]
      by_cases hq : q N
      · rw [ls_cn_t hq, ls_cn_t (h2 N (by omega) hq)]; omega
      · rw [ls_cn_f hq]
        have c : ls_cn r N ≤ ls_cn r (N + 1) := Nat.le_add_right _ _
        omega
theorem ls_cn_no {p : Nat → Prop} (N : Nat) (h : ∀ n, n < N → ¬ p n) : ls_cn p N = 0 := by
  have := ls_cn_le (q := fun _ => False) N (fun n hn hp => h n hn hp)
  rw [ls_cn_F] at this
  omega
theorem ls_cn_mono {p : Nat → Prop} {M N : Nat} (h : M ≤ N) : ls_cn p M ≤ ls_cn p N := by
  induction h with
  | refl => exact Nat.le_refl _
  | step _ ih => exact Nat.le_trans ih (Nat.le_add_right _ _)
theorem ls_cn_pos {p : Nat → Prop} {n N : Nat} (h : p n) (hn : n < N) : 0 < ls_cn p N := by
  have : ls_cn p (n + 1) ≤ ls_cn p N := ls_cn_mono hn
  rw [ls_cn_t h] at this
  omega
theorem ls_cn_ex {p : Nat → Prop} {N : Nat} (h : 0 < ls_cn p N) : ∃ n, n < N ∧ p n := by
  apply Classical.byContradiction
  intro hc
  have := ls_cn_no N (fun n hn hp => hc ⟨n, hn, hp⟩)
  omega
theorem ls_cn_one (a : Nat) : ∀ N, ls_cn (fun n => n = a) N ≤ 1 := by
  intro N
  induction N with
  | zero => exact Nat.zero_le _
  | succ N ih =>
    by_cases h : N = a
    · rw [ls_cn_t (p := fun n => n = a) h, ls_cn_no N (fun n hn (e : n = a) => by omega)]
      exact Nat.le_refl 1
    · rw [ls_cn_f (p := fun n => n = a) h]; exact ih
theorem ls_cn_all (N : Nat) : ls_cn (fun _ => True) N = N := by
  induction N with
  | zero => rfl
  | succ N ih => rw [ls_cn_t trivial, ih]
theorem ls_cn_up {p : Nat → Prop} (N : Nat) : ls_cn p N ≤ N := by
  have := ls_cn_le (q := fun _ => True) N (fun n _ (_ : p n) => trivial)
  rw [ls_cn_all] at this
  exact this
theorem ls_cn_one1 {a N : Nat} (h : a < N) : ls_cn (fun n => n = a) N = 1 := by
  have h1 := ls_cn_one a N
  have h2 := ls_cn_pos (p := fun n => n = a) rfl h
  omega
theorem ls_cn_add {p q : Nat → Prop} {a N : Nat} (ha : a < N) (hp : ¬ p a) (h : ∀ n, n < N → (q n ↔ (p n ∨ n = a))) : ls_cn q N = ls_cn p N + 1 := by
  have h1 := ls_cn_or (q := p) (r := fun n => n = a) N (fun n hn hq => (h n hn).mp hq)
  have h2 := ls_cn_dis (p := p) (q := fun n => n = a) (r := q) N (fun n hn hh => ⟨(h n hn).mpr (Or.inl hh), fun e => hp (e ▸ hh)⟩) (fun n hn hh => (h n hn).mpr (Or.inr hh))
  rw [ls_cn_one1 ha] at h1 h2
  omega
/-! ===== sums ===== -/
def ls_sm (F : Nat → Nat) : Nat → Nat
  | 0 => 0
  | n + 1 => ls_sm F n + F n
theorem ls_sm_le {F G : Nat → Nat} : ∀ N, (∀ n, n < N → F n ≤ G n) → ls_sm F N ≤ ls_sm G N := by
  intro N
  induction N with
  | zero => intro _; exact Nat.le_refl 0
  | succ N ih =>
    intro h
    exact Nat.add_le_add (ih (fun n hn => h n (by omega))) (h N (by omega))
theorem ls_sm_cg {F G : Nat → Nat} (N : Nat) (h : ∀ n, n < N → F n = G n) : ls_sm F N = ls_sm G N :=
  Nat.le_antisymm (ls_sm_le N (fun n hn => Nat.le_of_eq (h n hn))) (ls_sm_le N (fun n hn => Nat.le_of_eq (h n hn).symm))
theorem ls_sm_up {F : Nat → Nat} {a x : Nat} : ∀ N, a < N → ls_sm (ls_u F a x) N + F a = ls_sm F N + x := by
  intro N
  induction N with
  | zero => intro h; omega
  | succ N ih =>
    intro h
    show ls_sm (ls_u F a x) N + ls_u F a x N + F a = ls_sm F N + F N + x
    by_cases e : a = N
    · subst e
      rw [ls_us, ls_sm_cg (G := F) a (fun n hn => ls_un (by omega))]
      omega
    · rw [ls_un (by omega)]
      have := ih (by omega)
      omega
/-- a sum over classes is at most the count -/
theorem ls_sm_cn {F k : Nat → Nat} {p : Nat → Prop} {N : Nat} : ∀ M, (∀ s, s < M → F s ≤ ls_cn (fun n => p n ∧ k n = s) N) → ls_sm F M ≤ ls_cn (fun n => p n ∧ k n < M) N := by
  intro M
  induction M with
  | zero => intro _; exact Nat.zero_le _
  | succ M ih =>
    intro h
    have a := ih (fun s hs => h s (by omega))
    have b := h M (by omega)
    have c := ls_cn_dis (p := fun n => p n ∧ k n < M) (q := fun n => p n ∧ k n = M) (r := fun n => p n ∧ k n < M + 1) N (fun n _ hh => ⟨⟨hh.1, by omega⟩, fun e => by omega⟩) (fun n _ hh => ⟨hh.1, by omega⟩)
    show ls_sm F M + F M ≤ _
    omega
theorem ls_cn_sm {p : Nat → Prop} {F : Nat → Nat} {c : Nat} : ∀ N, (∀ n, n < N → p n → c ≤ F n) → c * ls_cn p N ≤ ls_sm F N := by
  intro N
  induction N with
  | zero => intro _; exact Nat.le_refl 0
  | succ N ih =>
    intro h
    have a := ih (fun n hn => h n (by omega))
    show c * ls_cn p (N + 1) ≤ ls_sm F N + F N
    by_cases hp : p N
    · rw [ls_cn_t hp, Nat.mul_succ]
      exact Nat.add_le_add a (h N (by omega) hp)
    · rw [ls_cn_f hp]; omega
/-! ===== going round ===== -/
def ls_nx (N l : Nat) : Nat := if l < N then l + 1 else 1
def ls_it (N : Nat) : Nat → Nat → Nat
  | 0, l => l
  | j + 1, l => ls_it N j (ls_nx N l)
theorem ls_it_lt {N : Nat} : ∀ j l, l + j ≤ N → ls_it N j l = l + j := by
  intro j
  induction j with
  | zero => intro l _; rfl
  | succ j ih =>
    intro l h
    show ls_it N j (ls_nx N l) = _
    rw [show ls_nx N l = l + 1 from if_pos (by omega), ih _ (by omega)]
    omega
theorem ls_it_add {N : Nat} (k : Nat) : ∀ j l, ls_it N (j + k) l = ls_it N k (ls_it N j l) := by
  intro j
  induction j with
  | zero => intro l; rw [Nat.zero_add]; rfl
  | succ j ih => intro l; rw [Nat.succ_add]; exact ih _
theorem ls_it_to {N l g : Nat} (hl : l ≤ N) (g1 : 1 ≤ g) (gN : g ≤ N) : ∃ j, 1 ≤ j ∧ j ≤ N ∧ ls_it N j l = g := by
  by_cases h : l < g
  · exact ⟨g - l, by omega, by omega, by rw [ls_it_lt _ _ (by omega)]; omega⟩
  · refine ⟨(N - l) + (1 + (g - 1)), by omega, by omega, ?_⟩
    rw [ls_it_add, ls_it_lt (N - l) l (by omega), ls_it_add]
    show ls_it N (g - 1) (ls_nx N (l + (N - l))) = g
    rw [show ls_nx N (l + (N - l)) = 1 from if_neg (by omega), ls_it_lt _ _ (by omega)]
    omega
end
section
/-! ===== the log: its shape ===== -/
def ls_sa (a : Nat) : Nat := 32 * (a / 8) + (a % 8 - 1) / 4
def ls_sn (dk : Nat → Int32) (a : Nat) : Nat := ls_gb (dk (ls_sa a)) ((a % 8 - 1) % 4)
def ls_PN (hd hu vi vs : Nat) (dk : Nat → Int32) (S : Nat → Nat) (n a : Nat) : Prop :=
  8 ≤ a ∧ a < 256 ∧ 1 ≤ a % 8 ∧ S (a / 8) ≠ 0 ∧ (a / 8 = hd → a % 8 ≤ hu) ∧ (a / 8 = vi → vs ≤ a % 8) ∧ ls_sn dk a = n
def ls_LA (ln fs hd hu vi vs : Nat) (dk : Nat → Int32) (P S V : Nat → Nat) : Prop :=
  (ln ≤ 255 ∧ 1 ≤ hd ∧ hd ≤ 31 ∧ hu ≤ 7 ∧ S hd = 2) ∧
  (∀ s, 1 ≤ s → s < 32 → S s ≤ 3 ∧ (S s = 2 → s = hd) ∧ (S s = 3 → s = vi)) ∧
  (vi = 0 ∨ (1 ≤ vi ∧ vi < 32 ∧ S vi = 3 ∧ 1 ≤ vs ∧ vs ≤ 7)) ∧
  fs = ls_cn (fun s => 1 ≤ s ∧ S s = 0) 32 ∧
  P 0 = 0 ∧
  (∀ n, n < 256 → P n ≠ 0 → ls_PN hd hu vi vs dk S n (P n)) ∧
  (∀ s, 1 ≤ s → s < 32 → V s = ls_cn (fun n => P n / 8 = s) 256)
/-- room: a free segment if nothing is being emptied; else room for all that is still to be moved -/
def ls_LC (fs hu vi : Nat) (V : Nat → Nat) : Prop := (vi = 0 → 1 ≤ fs) ∧ (vi ≠ 0 → V vi ≤ 7 ∧ V vi + hu ≤ 7 + 7 * fs)
def ls_rd (dk : Nat → Int32) (P : Nat → Nat) : Nat → Nat → Int32 := fun n w => if n < 256 ∧ w < 4 then dk (4 * P n + w) else 0
def ls_pl (P : Nat → Nat) : Nat → Prop := fun n => n < 256 ∧ P n ≠ 0
theorem ls_rdE {dk : Nat → Int32} {P : Nat → Nat} {n w : Nat} (hn : n < 256) (hw : w < 4) : ls_rd dk P n w = dk (4 * P n + w) := if_pos ⟨hn, hw⟩
theorem ls_rd_ext {dk dk' : Nat → Int32} {P P' : Nat → Nat} (h : ∀ n w, n < 256 → w < 4 → dk' (4 * P' n + w) = dk (4 * P n + w)) : ls_rd dk' P' = ls_rd dk P := by
  funext n w
  unfold ls_rd
  by_cases c : n < 256 ∧ w < 4
  · rw [if_pos c, if_pos c]; exact h n w c.1 c.2
  · rw [if_neg c, if_neg c]
section
variable {ln fs hd hu vi vs : Nat} {dk : Nat → Int32} {P S V : Nat → Nat}
theorem ls_LA_none (h : ls_LA ln fs hd hu vi vs dk P S V) {s : Nat} (s1 : 1 ≤ s) (s2 : s < 32) (hV : V s = 0) : ∀ n, n < 256 → P n / 8 ≠ s := by
  intro n hn e
  have a := h.2.2.2.2.2.2 s s1 s2
  have b := ls_cn_pos (p := fun n => P n / 8 = s) e hn
  omega
theorem ls_LA_free (h : ls_LA ln fs hd hu vi vs dk P S V) {s : Nat} (s1 : 1 ≤ s) (hS : S s = 0) : ∀ n, n < 256 → P n / 8 ≠ s := by
  intro n hn e
  have h0 : P n ≠ 0 := by intro z; rw [z] at e; omega
  have b := (h.2.2.2.2.2.1 n hn h0).2.2.2.1
  rw [e] at b
  exact b hS
theorem ls_LAopen (h : ls_LA ln fs hd hu vi vs dk P S V) {c y fs' : Nat} (c1 : 1 ≤ c) (c2 : c < 32) (hc : S c = 0) (hy : (y = 0 ∧ V hd = 0 ∧ fs' = fs) ∨ (y = 1 ∧ fs' + 1 = fs)) :
    ls_LA ln fs' c 0 vi vs (upd (upd dk (32 * c) 0) (32 * c + 1) 0) P (ls_u (ls_u S hd y) c 2) (ls_u V c 0) ∧
    ls_rd (upd (upd dk (32 * c) 0) (32 * c + 1) 0) P = ls_rd dk P ∧ (∀ j, j < 32 → (upd (upd dk (32 * c) 0) (32 * c + 1) 0) j = dk j) := by
  have hne : c ≠ hd := by intro e; have := h.1.2.2.2.2; rw [e] at hc; omega
  have hF := ls_LA_free h c1 hc
  obtain ⟨⟨a1, a2, a3, a4, a5⟩, b, d, e, f, g, i⟩ := h
  refine ⟨⟨⟨a1, c1, by omega, by omega, ls_us⟩, ?_, ?_, ?_, f, ?_, ?_⟩, ?_, ?_⟩
  · intro s s1 s2
    have bs := b s s1 s2
    by_cases e1 : s = c
    · subst e1; rw [ls_us]; exact ⟨by omega, fun _ => rfl, fun z => by omega⟩
    · rw [ls_un e1]
      by_cases e2 : s = hd
      · subst e2; rw [ls_us]; refine ⟨by omega, fun z => by omega, fun z => by omega⟩
      · rw [ls_un e2]
        exact ⟨bs.1, fun z => absurd (bs.2.1 z) e2, bs.2.2⟩
  · rcases d with d | ⟨d1, d2, d3, d4⟩
    · exact Or.inl d
    · have n1 : vi ≠ c := by intro z; rw [z] at d3; omega
      have n2 : vi ≠ hd := by intro z; rw [z] at d3; omega
      exact Or.inr ⟨d1, d2, by rw [ls_un n1, ls_un n2]; exact d3, d4⟩
  · have m := ls_cn_add (p := fun s => (1 ≤ s ∧ S s = 0) ∧ s ≠ c) (q := fun s => 1 ≤ s ∧ S s = 0) c2 (fun z => z.2 rfl) (fun n _ => ⟨fun z => by by_cases q : n = c; exact Or.inr q; exact Or.inl ⟨z, q⟩, fun z => by rcases z with z | z; exact z.1; subst z; exact ⟨c1, hc⟩⟩)
    rcases hy with ⟨y1, y2, y3⟩ | ⟨y1, y2⟩
    · have m2 := ls_cn_add (p := fun s => (1 ≤ s ∧ S s = 0) ∧ s ≠ c) (q := fun s => 1 ≤ s ∧ ls_u (ls_u S hd y) c 2 s = 0) (a := hd) (N := 32) (by omega) (fun z => by omega) (fun n _ => by
        by_cases e1 : n = c
        · subst e1; rw [ls_us]; exact ⟨fun z => by omega, fun z => by rcases z with z | z; exact absurd rfl z.2; exact absurd z hne⟩
        · rw [ls_un e1]
          by_cases e2 : n = hd
          · subst e2; rw [ls_us]; exact ⟨fun _ => Or.inr rfl, fun _ => ⟨a2, y1⟩⟩
          · rw [ls_un e2]; exact ⟨fun z => Or.inl ⟨z, e1⟩, fun z => by rcases z with z | z; exact z.1; exact absurd z e2⟩)
      omega
    · have m2 := ls_cn_cg (p := fun s => 1 ≤ s ∧ ls_u (ls_u S hd y) c 2 s = 0) (q := fun s => (1 ≤ s ∧ S s = 0) ∧ s ≠ c) 32 (fun n _ => by
        by_cases e1 : n = c
        · subst e1; rw [ls_us]; exact ⟨fun z => by omega, fun z => absurd rfl z.2⟩
        · rw [ls_un e1]
          by_cases e2 : n = hd
          · subst e2; rw [ls_us]; exact ⟨fun z => by omega, fun z => by omega⟩
          · rw [ls_un e2]; exact ⟨fun z => ⟨z, e1⟩, fun z => z.1⟩)
      omega
  · intro n hn h0
    have gg := g n hn h0
    have nc := hF n hn
    refine ⟨gg.1, gg.2.1, gg.2.2.1, ?_, fun z => absurd z nc, gg.2.2.2.2.2.1, ?_⟩
    · rw [ls_un nc]
      by_cases e2 : P n / 8 = hd
      · rw [e2, ls_us]
        rcases hy with ⟨y1, y2, y3⟩ | ⟨y1, y2⟩
        · have q := i hd a2 (by omega)
          have q2 := ls_cn_pos (p := fun n => P n / 8 = hd) e2 hn
          omega
        · omega
      · rw [ls_un e2]; exact gg.2.2.2.1
    · have q := gg.2.2.2.2.2.2
      unfold ls_sn at q ⊢
      have k1 : ls_sa (P n) ≠ 32 * c + 1 := by unfold ls_sa; omega
      have k2 : ls_sa (P n) ≠ 32 * c := by unfold ls_sa; omega
      rw [pk_un k1, pk_un k2]
      exact q
  · intro s s1 s2
    by_cases e1 : s = c
    · subst e1; rw [ls_us]; exact (ls_cn_no _ hF).symm
    · rw [ls_un e1]; exact i s s1 s2
  · refine ls_rd_ext (fun n w hn hw => ?_)
    by_cases h0 : P n = 0
    · rw [pk_un (by omega), pk_un (by omega)]
    · have gg := (g n hn h0).2.2.1
      rw [pk_un (by omega), pk_un (by omega)]
  · intro j hj
    rw [pk_un (by omega), pk_un (by omega)]
/-- a block with number m takes the next slot of the head -/
theorem ls_LAput (h : ls_LA ln fs hd hu vi vs dk P S V) (h7 : hu < 7) {m : Nat} (m1 : 1 ≤ m) (m2 : m < 256) {dk' : Nat → Int32} {V' : Nat → Nat}
    (hs : dk' (32 * hd + hu / 4) = ls_sb (dk (32 * hd + hu / 4)) (hu % 4) m)
    (ho : ∀ j, j ≠ 32 * hd + hu / 4 → (j < 4 * (8 * hd + hu + 1) ∨ 4 * (8 * hd + hu + 1) + 4 ≤ j) → dk' j = dk j)
    (hV : ∀ s, 1 ≤ s → s < 32 → V' s = ls_cn (fun n => ls_u P m (8 * hd + hu + 1) n / 8 = s) 256) :
    ls_LA ln fs hd (hu + 1) vi vs dk' (ls_u P m (8 * hd + hu + 1)) S V' ∧
    (∀ n w, n ≠ m → ls_rd dk' (ls_u P m (8 * hd + hu + 1)) n w = ls_rd dk P n w) ∧
    (∀ w, w < 4 → ls_rd dk' (ls_u P m (8 * hd + hu + 1)) m w = dk' (4 * (8 * hd + hu + 1) + w)) ∧ (∀ j, j < 32 → dk' j = dk j) := by
  obtain ⟨⟨a1, a2, a3, a4, a5⟩, b, d, e, f, g, i⟩ := h
  refine ⟨⟨⟨a1, a2, a3, by omega, a5⟩, b, d, e, ?_, ?_, hV⟩, ?_, ?_, ?_⟩
  · rw [ls_un (by omega)]; exact f
  · intro n hn h0
    by_cases en : n = m
    · subst en
      rw [ls_us]
      have q1 : (8 * hd + hu + 1) / 8 = hd := by omega
      have q2 : (8 * hd + hu + 1) % 8 = hu + 1 := by omega
      refine ⟨by omega, by omega, by omega, by rw [q1]; omega, fun _ => by omega, fun z => ?_, ?_⟩
      · exfalso
        rw [q1] at z
        rcases d with d | ⟨d1, d2, d3, d4⟩
        · omega
        · rw [← z] at d3; omega
      · unfold ls_sn ls_sa
        rw [q1, q2, show (hu + 1 - 1) = hu from rfl, hs]
        exact ls_gbs_s _ (by omega) m2
    · rw [ls_un en] at h0 ⊢
      have gg := g n hn h0
      refine ⟨gg.1, gg.2.1, gg.2.2.1, gg.2.2.2.1, fun z => by have := gg.2.2.2.2.1 z; omega, gg.2.2.2.2.2.1, ?_⟩
      have q := gg.2.2.2.2.2.2
      have g5 := gg.2.2.2.2.1
      have g1 := gg.2.2.1
      generalize P n = a at g5 g1 q
      unfold ls_sn at q ⊢
      by_cases es : ls_sa a = 32 * hd + hu / 4
      · have e8 : a / 8 = hd := by unfold ls_sa at es; omega
        have l5 := g5 e8
        have e4 : (a % 8 - 1) / 4 = hu / 4 := by unfold ls_sa at es; omega
        rw [es] at q ⊢
        rw [hs, ls_gbs_n _ (by omega) (by omega) m2 (by omega)]
        exact q
      · rw [ho _ es (by unfold ls_sa; omega)]; exact q
  · intro n w hn
    unfold ls_rd
    by_cases c : n < 256 ∧ w < 4
    · rw [if_pos c, if_pos c, ls_un hn]
      by_cases h0 : P n = 0
      · exact ho _ (by omega) (by omega)
      · have gg := g n c.1 h0
        have g5 := gg.2.2.2.2.1
        have g1 := gg.2.2.1
        generalize P n = a at g5 g1
        have na : a ≠ 8 * hd + hu + 1 := by intro z; have := g5 (by omega); omega
        exact ho _ (by omega) (by omega)
    · rw [if_neg c, if_neg c]
  · intro w hw
    rw [ls_rdE m2 hw, ls_us]
  · intro j hj
    exact ho _ (by omega) (by omega)
theorem ls_Vput (h : ls_LA ln fs hd hu vi vs dk P S V) (h7 : hu < 7) {m : Nat} (m2 : m < 256) (hm : P m = 0) :
    ∀ s, 1 ≤ s → s < 32 → ls_u V hd (V hd + 1) s = ls_cn (fun n => ls_u P m (8 * hd + hu + 1) n / 8 = s) 256 := by
  intro s s1 s2
  have i := h.2.2.2.2.2.2 s s1 s2
  by_cases e : s = hd
  · subst e
    rw [ls_us, i]
    refine (ls_cn_add m2 (by rw [hm]; omega) (fun n _ => ?_)).symm
    by_cases en : n = m
    · subst en; rw [ls_us]; exact ⟨fun _ => Or.inr rfl, fun _ => by omega⟩
    · rw [ls_un en]; exact ⟨fun z => Or.inl z, fun z => by rcases z with z | z; exact z; exact absurd z en⟩
  · rw [ls_un e, i]
    refine ls_cn_cg _ (fun n _ => ?_)
    by_cases en : n = m
    · subst en; rw [ls_us, hm]; exact ⟨fun z => by omega, fun z => by omega⟩
    · rw [ls_un en]
theorem ls_Vmove (h : ls_LA ln fs hd hu vi vs dk P S V) (h7 : hu < 7) (hv : vi ≠ 0) {m : Nat} (m2 : m < 256) (hm : P m / 8 = vi) :
    ∀ s, 1 ≤ s → s < 32 → ls_u (ls_u V hd (V hd + 1)) vi (V vi - 1) s = ls_cn (fun n => ls_u P m (8 * hd + hu + 1) n / 8 = s) 256 := by
  intro s s1 s2
  have i := h.2.2.2.2.2.2 s s1 s2
  have hne : vi ≠ hd := by
    intro z
    rcases h.2.2.1 with d | ⟨d1, d2, d3, d4⟩
    · omega
    · have := h.1.2.2.2.2; rw [z] at d3; omega
  by_cases ev : s = vi
  · subst ev
    rw [ls_us, i]
    have q := ls_cn_add (p := fun n => ls_u P m (8 * hd + hu + 1) n / 8 = s) (q := fun n => P n / 8 = s) m2 (by rw [ls_us]; omega) (fun n _ => by
      by_cases en : n = m
      · subst en; exact ⟨fun _ => Or.inr rfl, fun _ => hm⟩
      · rw [ls_un en]; exact ⟨fun z => Or.inl z, fun z => by rcases z with z | z; exact z; exact absurd z en⟩)
    omega
  · rw [ls_un ev]
    by_cases e : s = hd
    · subst e
      rw [ls_us, i]
      refine (ls_cn_add m2 (by rw [hm]; omega) (fun n _ => ?_)).symm
      by_cases en : n = m
      · subst en; rw [ls_us]; exact ⟨fun _ => Or.inr rfl, fun _ => by omega⟩
      · rw [ls_un en]; exact ⟨fun z => Or.inl z, fun z => by rcases z with z | z; exact z; exact absurd z en⟩
    · rw [ls_un e, i]
      refine ls_cn_cg _ (fun n _ => ?_)
      by_cases en : n = m
      · subst en; rw [ls_us, hm]; exact ⟨fun z => by omega, fun z => by omega⟩
      · rw [ls_un en]
theorem ls_LAskip (h : ls_LA ln fs hd hu vi vs dk P S V) (h0 : ∀ n, n < 256 → P n ≠ 8 * vi + vs) (h7 : vs < 7) : ls_LA ln fs hd hu vi (vs + 1) dk P S V := by
  obtain ⟨a, b, d, e, f, g, i⟩ := h
  refine ⟨a, b, ?_, e, f, ?_, i⟩
  · rcases d with d | ⟨d1, d2, d3, d4⟩
    · exact Or.inl d
    · exact Or.inr ⟨d1, d2, d3, by omega, by omega⟩
  · intro n hn hz
    have gg := g n hn hz
    have q := h0 n hn
    exact ⟨gg.1, gg.2.1, gg.2.2.1, gg.2.2.2.1, gg.2.2.2.2.1, fun z => by have := gg.2.2.2.2.2.1 z; omega, gg.2.2.2.2.2.2⟩
theorem ls_LAlast (h : ls_LA ln fs hd hu vi 7 dk P S V) (hv : vi ≠ 0) (h0 : ∀ n, n < 256 → P n ≠ 8 * vi + 7) : V vi = 0 := by
  rcases h.2.2.1 with d | ⟨d1, d2, d3, d4⟩
  · omega
  · rw [h.2.2.2.2.2.2 vi d1 d2]
    refine ls_cn_no _ (fun n hn z => ?_)
    have hz : P n ≠ 0 := by intro y; rw [y] at z; omega
    have := (h.2.2.2.2.2.1 n hn hz).2.2.2.2.2.1 z
    have := h0 n hn
    omega
/-- an empty segment, closed or being emptied, is free again -/
theorem ls_LArel (h : ls_LA ln fs hd hu vi vs dk P S V) {s vi' vs' : Nat} (s1 : 1 ≤ s) (s2 : s < 32) (hS : S s = 1 ∨ S s = 3) (hV : V s = 0) (hv : (vi' = vi ∧ vi ≠ s ∧ vs' = vs) ∨ (vi = s ∧ vi' = 0)) :
    ls_LA ln (fs + 1) hd hu vi' vs' dk P (ls_u S s 0) V := by
  have hN := ls_LA_none h s1 s2 hV
  obtain ⟨⟨a1, a2, a3, a4, a5⟩, b, d, e, f, g, i⟩ := h
  have hne : hd ≠ s := by intro z; rw [z] at a5; omega
  refine ⟨⟨a1, a2, a3, a4, by rw [ls_un hne]; exact a5⟩, ?_, ?_, ?_, f, ?_, i⟩
  · intro t t1 t2
    have bt := b t t1 t2
    by_cases e1 : t = s
    · subst e1; rw [ls_us]; exact ⟨by omega, fun z => by omega, fun z => by omega⟩
    · rw [ls_un e1]
      refine ⟨bt.1, bt.2.1, fun z => ?_⟩
      have := bt.2.2 z
      omega
  · rcases hv with ⟨v1, v2, v3⟩ | ⟨v1, v2⟩
    · subst v1 v3
      rcases d with d | ⟨d1, d2, d3, d4⟩
      · exact Or.inl d
      · exact Or.inr ⟨d1, d2, by rw [ls_un v2]; exact d3, d4⟩
    · exact Or.inl v2
  · rw [e]
    refine (ls_cn_add s2 (by omega) (fun n _ => ?_)).symm
    by_cases e1 : n = s
    · subst e1; rw [ls_us]; exact ⟨fun _ => Or.inr rfl, fun _ => ⟨s1, rfl⟩⟩
    · rw [ls_un e1]; exact ⟨fun z => Or.inl z, fun z => by rcases z with z | z; exact z; exact absurd z e1⟩
  · intro n hn hz
    have gg := g n hn hz
    have q := hN n hn
    refine ⟨gg.1, gg.2.1, gg.2.2.1, by rw [ls_un q]; exact gg.2.2.2.1, gg.2.2.2.2.1, fun z => ?_, gg.2.2.2.2.2.2⟩
    rcases hv with ⟨v1, v2, v3⟩ | ⟨v1, v2⟩
    · subst v1 v3; exact gg.2.2.2.2.2.1 z
    · have := gg.1; omega
theorem ls_LAchoose (h : ls_LA ln fs hd hu 0 vs dk P S V) {s : Nat} (s1 : 1 ≤ s) (s2 : s < 32) (hS : S s = 1) : ls_LA ln fs hd hu s 1 dk P (ls_u S s 3) V := by
  obtain ⟨⟨a1, a2, a3, a4, a5⟩, b, d, e, f, g, i⟩ := h
  have hne : hd ≠ s := by intro z; rw [z] at a5; omega
  refine ⟨⟨a1, a2, a3, a4, by rw [ls_un hne]; exact a5⟩, ?_, Or.inr ⟨s1, s2, ls_us, by omega, by omega⟩, ?_, f, ?_, i⟩
  · intro t t1 t2
    have bt := b t t1 t2
    by_cases e1 : t = s
    · subst e1; rw [ls_us]; exact ⟨by omega, fun z => by omega, fun z => rfl⟩
    · rw [ls_un e1]
      refine ⟨bt.1, bt.2.1, fun z => ?_⟩
      have := bt.2.2 z
      omega
  · rw [e]
    refine ls_cn_cg _ (fun n _ => ?_)
    by_cases e1 : n = s
    · subst e1; rw [ls_us]; exact ⟨fun z => by omega, fun z => by omega⟩
    · rw [ls_un e1]
  · intro n hn hz
    have gg := g n hn hz
    refine ⟨gg.1, gg.2.1, gg.2.2.1, ?_, gg.2.2.2.2.1, fun z => gg.2.2.1, gg.2.2.2.2.2.2⟩
    by_cases e1 : P n / 8 = s
    · rw [e1, ls_us]; omega
    · rw [ls_un e1]; exact gg.2.2.2.1
/-- with few numbers in use and at most one free segment, some closed segment has at most 4 live slots -/
theorem ls_LAfew (h : ls_LA ln fs hd hu 0 vs dk P S V) (hf : fs ≤ 1) (hc : ls_cn (fun n => P n ≠ 0) 256 ≤ 138) : ∃ s, 1 ≤ s ∧ s < 32 ∧ S s = 1 ∧ V s ≤ 4 := by
  apply Classical.byContradiction
  intro hno
  have h5 : ∀ s, s < 32 → (1 ≤ s ∧ S s = 1) → 5 ≤ (if s = 0 then 0 else V s) := by
    intro s s2 hs
    rw [if_neg (by omega)]
    apply Classical.byContradiction
    intro hlt
    exact hno ⟨s, hs.1, s2, hs.2, by omega⟩
  have k1 := ls_cn_sm (c := 5) 32 h5
  have k2 := ls_sm_cn (F := fun s => if s = 0 then 0 else V s) (k := fun n => P n / 8) (p := fun n => P n ≠ 0) (N := 256) 32 (fun s s2 => by
    show (if s = 0 then 0 else V s) ≤ _
    by_cases z : s = 0
    · rw [if_pos z]; exact Nat.zero_le _
    · rw [if_neg z, h.2.2.2.2.2.2 s (by omega) s2]
      exact ls_cn_le _ (fun n _ hh => ⟨fun y => by rw [y] at hh; omega, hh⟩))
  have k3 := ls_cn_le (p := fun n => P n ≠ 0 ∧ P n / 8 < 32) (q := fun n => P n ≠ 0) 256 (fun n _ hh => hh.1)
  have k4 := ls_cn_or (p := fun _ => True) (q := fun s => 1 ≤ s ∧ S s = 1) (r := fun s => (1 ≤ s ∧ S s = 0) ∨ (s = hd ∨ s = 0)) 32 (fun s s2 _ => by
    by_cases z : s = 0
    · exact Or.inr (Or.inr (Or.inr z))
    · have b := h.2.1 s (by omega) s2
      by_cases y0 : S s = 0
      · exact Or.inr (Or.inl ⟨by omega, y0⟩)
      · by_cases y1 : S s = 1
        · exact Or.inl ⟨by omega, y1⟩
        · by_cases y2 : S s = 2
          · exact Or.inr (Or.inr (Or.inl (b.2.1 y2)))
          · have := b.2.2 (by omega); omega)
  have k5 := ls_cn_or (p := fun s => (1 ≤ s ∧ S s = 0) ∨ (s = hd ∨ s = 0)) (q := fun s => 1 ≤ s ∧ S s = 0) (r := fun s => s = hd ∨ s = 0) 32 (fun s _ hh => hh)
  have k6 := ls_cn_or (p := fun s => s = hd ∨ s = 0) (q := fun s => s = hd) (r := fun s => s = 0) 32 (fun s _ hh => hh)
  have k7 := ls_cn_one hd 32
  have k8 := ls_cn_one 0 32
  have k9 := h.2.2.2.1
  rw [ls_cn_all] at k4
  omega
theorem ls_LAhole (h : ls_LA ln fs hd hu vi vs dk P S V) (hc : ls_cn (fun n => P n ≠ 0) 256 < 255) : ∃ g, 1 ≤ g ∧ g ≤ 255 ∧ P g = 0 := by
  apply Classical.byContradiction
  intro hno
  have k := ls_cn_or (p := fun _ => True) (q := fun n => P n ≠ 0) (r := fun n => n = 0) 256 (fun n hn _ => by
    by_cases z : n = 0
    · exact Or.inr z
    · exact Or.inl (fun y => hno ⟨n, by omega, by omega, y⟩))
  have k8 := ls_cn_one 0 256
  rw [ls_cn_all] at k
  omega
end
end
section
/-! ===== small helpers on the walks ===== -/
theorem ls_fc {S : Nat → Nat} {z : Nat} (h : z < 2 ^ 31) : ls_f S (nI z).toNatClampNeg = nI (S z) := by
  rw [nI_clamp h]; rfl
theorem ls_uc {S : Nat → Nat} {z x : Nat} {y : Int32} (h : z < 2 ^ 31) (e : y = nI x) : upd (ls_f S) (nI z).toNatClampNeg y = ls_f (ls_u S z x) := by
  rw [nI_clamp h, ls_uf e]
theorem ls_dc {d : Nat → Int32} {z : Nat} {x : Int32} {y : Int32} (h : z < 2 ^ 31) (e : x = nI z) : upd d x.toNatClampNeg y = upd d z y := by
  rw [e, nI_clamp h]
theorem ls_32 (n : Nat) : nI n * 32 = nI (32 * n) := by
  rw [show (32 : Int32) = nI 32 from rfl, pk_mul, Nat.mul_comm]
theorem ls_4 (n : Nat) : nI n * 4 = nI (4 * n) := by
  rw [show (4 : Int32) = nI 4 from rfl, pk_mul, Nat.mul_comm]
theorem ls_sh2 {n : Nat} (h : n < 2 ^ 31) : nI n >>> ((2 : Int32) &&& 31) = nI (n / 4) := pk_shrN h _ 2 (by decide)
theorem ls_sh3 {n : Nat} (h : n < 2 ^ 31) : nI n >>> ((3 : Int32) &&& 31) = nI (n / 8) := pk_shrN h _ 3 (by decide)
theorem ls_xGB {post : Int32 → Prop} (u : SX) {x p1 : Int32} {i : Nat} (e : p1 = nI i) (hi : i < 4) (k : post (nI (ls_gb x i))) : wpX_getByte post u x p1 := by
  obtain ⟨sF, sC, sH, sV, fl, bl, tl, ln, fs, hd, hu, vi, vs, tc, pc, np, mo, dk, pa, lv, ss, sl, op⟩ := u
  subst e
  unfold wpX_getByte
  dsimp only
  rw [ls_gbE x hi]
  exact k
theorem ls_xSB {post : Int32 → Prop} (u : SX) {x p1 p2 : Int32} {i v : Nat} (e : p1 = nI i) (hi : i < 4) (e2 : p2 = nI v) (k : post (ls_sb x i v)) : wpX_setByte post u x p1 p2 := by
  obtain ⟨sF, sC, sH, sV, fl, bl, tl, ln, fs, hd, hu, vi, vs, tc, pc, np, mo, dk, pa, lv, ss, sl, op⟩ := u
  subst e e2
  unfold wpX_setByte
  dsimp only
  refine nm_r (e' := nI (8 * i)) ?_ k
  rw [ls_a3' hi, ls_8]
section
variable {sF sC sH sV fl bl tl tc pc np mo : Int32} {ln fs hd hu vi vs : Nat} {dk lv op : Nat → Int32} {P S V : Nat → Nat}
theorem ls_xRel {post : SX → Prop} {s : Nat} (h : s < 32) (k : post (sF, sC, sH, sV, fl, bl, tl, (nI ln), (nI (fs+1)), (nI hd), (nI hu), (nI vi), (nI vs), tc, pc, np, mo, dk, (ls_f P), lv, (ls_f (ls_u S s 0)), (ls_f V), op)) : wpX_releaseSegment post (sF, sC, sH, sV, fl, bl, tl, (nI ln), (nI fs), (nI hd), (nI hu), (nI vi), (nI vs), tc, pc, np, mo, dk, (ls_f P), lv, (ls_f S), (ls_f V), op) (nI s) := by
  unfold wpX_releaseSegment
  dsimp only
  exact ⟨vp_in_nI h (by decide), nm_r (ls_uc (by omega) rfl) (nm_r (nI_1 fs) k)⟩
theorem ls_xTakeSlot18 {post : Int32 → SX → Prop} {m : Nat} (h1 : 1 ≤ hd) (h2 : hd ≤ 31) (h7 : hu < 7) (k : post (nI (8 * hd + hu + 1)) (sF, sC, sH, sV, fl, bl, tl, (nI ln), (nI fs), (nI hd), (nI (hu+1)), (nI vi), (nI vs), tc, pc, np, mo, (upd dk (32 * hd + hu / 4) (ls_sb (dk (32 * hd + hu / 4)) (hu % 4) m)), (ls_f P), lv, (ls_f S), (ls_f (ls_u V hd (V hd + 1))), op)) : wX_takeSlot_18 post (nI m) sF sC sH sV fl bl tl (nI ln) (nI fs) (nI hd) (nI hu) (nI vi) (nI vs) tc pc np mo dk (ls_f P) lv (ls_f S) (ls_f V) op := by
  unfold wX_takeSlot_18
  refine nm_r (e' := nI (32 * hd + hu / 4)) (by rw [ls_32, ls_sh2 (by omega), nI_add]) ?_
  refine ⟨vp_in_nI (by omega) (by decide), ?_⟩
  refine ls_xSB _ (i := hu % 4) (v := m) (ls_a3 (by omega)) (by omega) rfl ?_
  refine ⟨vp_in_nI (by omega) (by decide), ?_⟩
  rw [nI_clamp (by omega)]
  refine nm_e (nm_r (nI_1 hu) ⟨vp_in_nI (by omega) (by decide), vp_in_nI (by omega) (by decide), nm_r (ls_uc (x := V hd + 1) (by omega) (by rw [ls_fc (by omega), nI_1])) ?_⟩)
  rw [ls_8, nI_add]
  exact k
theorem ls_xOpen69 {post : Int32 → SX → Prop} {z : Nat} (h2 : z < 32) (hf : 1 ≤ fs) (k : post 1 (sF, sC, sH, sV, fl, bl, tl, (nI ln), (nI (fs-1)), (nI z), (nI 0), (nI vi), (nI vs), tc, pc, np, mo, (upd (upd dk (32 * z) 0) (32 * z + 1) 0), (ls_f P), lv, (ls_f (ls_u S z 2)), (ls_f (ls_u V z 0)), op)) : wX_openSegment_69 post (nI z) sF sC sH sV fl bl tl (nI ln) (nI fs) (nI hd) (nI hu) (nI vi) (nI vs) tc pc np mo dk (ls_f P) lv (ls_f S) (ls_f V) op := by
  unfold wX_openSegment_69
  refine ⟨vp_in_nI h2 (by decide), nm_r (ls_uc (x := 2) (by omega) rfl) ⟨vp_in_nI h2 (by decide), nm_r (ls_uc (x := 0) (by omega) rfl) (nm_r (e' := nI (fs - 1)) (pk_sub (b := 1) hf) ?_)⟩⟩
  rw [ls_32]
  refine ⟨vp_in_nI (by omega) (by decide), nm_r (ls_dc (by omega) rfl) ⟨?_, nm_r (ls_dc (z := 32 * z + 1) (by omega) (nI_1 _)) k⟩⟩
  rw [nI_1]
  exact vp_in_nI (by omega) (by decide)
theorem ls_xOpen26 {post : Int32 → SX → Prop} {J : Int32 → Int32 → Prop} {z i : Nat} (h : ls_LA ln fs hd 7 vi vs dk P S V) (hf : 1 ≤ fs) (z1 : 1 ≤ z) (z2 : z < 32)
    (k : ∀ fs' hd' dk' S' V', ls_LA ln fs' hd' 0 vi vs dk' P S' V' → fs ≤ fs' + 1 → ls_rd dk' P = ls_rd dk P → (∀ j, j < 32 → dk' j = dk j) → (vi ≠ 0 → V' vi = V vi) → post 1 (sF, sC, sH, sV, fl, bl, tl, (nI ln), (nI fs'), (nI hd'), (nI 0), (nI vi), (nI vs), tc, pc, np, mo, dk', (ls_f P), lv, (ls_f S'), (ls_f V'), op))
    (kn : S z ≠ 0 → J (nI z) (nI (i + 1))) : wX_openSegment_26 post J (nI i) (nI z) sF sC sH sV fl bl tl (nI ln) (nI fs) (nI hd) (nI 7) (nI vi) (nI vs) tc pc np mo dk (ls_f P) lv (ls_f S) (ls_f V) op := by
  have hz := (h.2.1 z z1 z2).1
  have h1 := h.1.2.1
  have h2 := h.1.2.2.1
  have hVl : V hd ≤ 256 := by rw [h.2.2.2.2.2.2 hd h1 (by omega)]; exact ls_cn_up _
  have hvz : S z = 0 → vi ≠ 0 → ls_u V z 0 vi = V vi := by
    intro e hv
    refine ls_un (fun y => ?_)
    rcases h.2.2.1 with d | ⟨d1, d2, d3, d4⟩
    · omega
    · rw [y] at d3; omega
  unfold wX_openSegment_26
  refine ⟨vp_in_nI z2 (by decide), pk_eq (S z) 0 (fun e => ?_) (fun e => nm_r (nI_1 i) (kn e)) (ls_fc (by omega)) rfl (by omega) (by decide)⟩
  refine ⟨vp_in_nI (by omega) (by decide), pk_eq (V hd) 0 (fun ev => ?_) (fun ev => ?_) (ls_fc (by omega)) rfl (by omega) (by decide)⟩
  · refine ls_xRel (by omega) ?_
    refine ls_xOpen69 z2 (by omega) ?_
    have o := ls_LAopen h z1 z2 e (y := 0) (fs' := fs) (Or.inl ⟨rfl, ev, rfl⟩)
    exact k _ _ _ _ _ o.1 (by omega) o.2.1 o.2.2 (hvz e)
  · refine ⟨vp_in_nI (by omega) (by decide), nm_r (ls_uc (x := 1) (by omega) rfl) (ls_xOpen69 z2 hf ?_)⟩
    have o := ls_LAopen h z1 z2 e (y := 1) (fs' := fs - 1) (Or.inr ⟨rfl, by omega⟩)
    exact k _ _ _ _ _ o.1 (by omega) o.2.1 o.2.2 (hvz e)
theorem ls_nx_lt {N l : Nat} (hN : 1 ≤ N) (h : l ≤ N) : 1 ≤ ls_nx N l ∧ ls_nx N l ≤ N := by
  unfold ls_nx
  split <;> omega
theorem ls_xOpen7 {post : Int32 → SX → Prop} (h : ls_LA ln fs hd 7 vi vs dk P S V) (hf : 1 ≤ fs)
    (k : ∀ fs' hd' dk' S' V', ls_LA ln fs' hd' 0 vi vs dk' P S' V' → fs ≤ fs' + 1 → ls_rd dk' P = ls_rd dk P → (∀ j, j < 32 → dk' j = dk j) → (vi ≠ 0 → V' vi = V vi) → post 1 (sF, sC, sH, sV, fl, bl, tl, (nI ln), (nI fs'), (nI hd'), (nI 0), (nI vi), (nI vs), tc, pc, np, mo, dk', (ls_f P), lv, (ls_f S'), (ls_f V'), op)) :
    ∀ j c i n, S (ls_it 31 j c) = 0 → 1 ≤ j → i + j ≤ 31 → c ≤ 31 → j < n → wX_openSegment_7 post sF sC sH sV fl bl tl (nI ln) (nI fs) (nI hd) (nI 7) (nI vi) (nI vs) tc pc np mo dk (ls_f P) lv (ls_f S) (ls_f V) op n (nI c) (nI i) := by
  intro j
  induction j with
  | zero => intro c i n _ h1; omega
  | succ j ih =>
    intro c i n hS _ hi hc hn
    obtain ⟨n, rfl⟩ : ∃ n', n = n' + 1 := ⟨n - 1, by omega⟩
    have nx := ls_nx_lt (N := 31) (by decide) hc
    have hS' : S (ls_it 31 j (ls_nx 31 c)) = 0 := hS
    have main : wX_openSegment_26 post (wX_openSegment_7 post sF sC sH sV fl bl tl (nI ln) (nI fs) (nI hd) (nI 7) (nI vi) (nI vs) tc pc np mo dk (ls_f P) lv (ls_f S) (ls_f V) op n) (nI i) (nI (ls_nx 31 c)) sF sC sH sV fl bl tl (nI ln) (nI fs) (nI hd) (nI 7) (nI vi) (nI vs) tc pc np mo dk (ls_f P) lv (ls_f S) (ls_f V) op := by
      refine ls_xOpen26 h hf nx.1 (by omega) k (fun ne => ?_)
      by_cases j0 : j = 0
      · subst j0; exact absurd hS' ne
      · exact ih _ _ _ hS' (by omega) (by omega) nx.2 (by omega)
    refine br_f (nI_ge (b := 31) (by omega) (by decide)) (pk_lt c 31 (fun l => ?_) (fun l => ?_) rfl rfl (by omega) (by decide))
    · rw [nI_1]
      rw [show ls_nx 31 c = c + 1 from if_pos l] at main
      exact main
    · rw [show ls_nx 31 c = 1 from if_neg (by omega)] at main
      exact main
theorem ls_xOpen {post : Int32 → SX → Prop} (h : ls_LA ln fs hd 7 vi vs dk P S V) (hf : 1 ≤ fs)
    (k : ∀ fs' hd' dk' S' V', ls_LA ln fs' hd' 0 vi vs dk' P S' V' → fs ≤ fs' + 1 → ls_rd dk' P = ls_rd dk P → (∀ j, j < 32 → dk' j = dk j) → (vi ≠ 0 → V' vi = V vi) → post 1 (sF, sC, sH, sV, fl, bl, tl, (nI ln), (nI fs'), (nI hd'), (nI 0), (nI vi), (nI vs), tc, pc, np, mo, dk', (ls_f P), lv, (ls_f S'), (ls_f V'), op)) :
    wpX_openSegment post (sF, sC, sH, sV, fl, bl, tl, (nI ln), (nI fs), (nI hd), (nI 7), (nI vi), (nI vs), tc, pc, np, mo, dk, (ls_f P), lv, (ls_f S), (ls_f V), op) := by
  have hp : 0 < ls_cn (fun s => 1 ≤ s ∧ S s = 0) 32 := by rw [← h.2.2.2.1]; exact hf
  obtain ⟨g, g2, g1, g0⟩ := ls_cn_ex hp
  obtain ⟨j, j1, j2, je⟩ := ls_it_to (N := 31) (l := hd) h.1.2.2.1 g1 (by omega)
  unfold wpX_openSegment
  exact ⟨j + 1, ls_xOpen7 h hf k j hd 0 (j + 1) (by rw [je]; exact g0) j1 (by omega) h.1.2.2.1 (by omega)⟩
theorem ls_xTakeSlot {post : Int32 → SX → Prop} {m : Nat} (h : ls_LA ln fs hd hu vi vs dk P S V) (hr : hu < 7 ∨ 1 ≤ fs)
    (k : ∀ fs' hd' hu' dk' S' V', ls_LA ln fs' hd' hu' vi vs dk' P S' V' → hu' < 7 → 7 * fs + hu' ≤ 7 * fs' + hu → ls_rd dk' P = ls_rd dk P → (∀ j, j < 32 → dk' j = dk j) → (vi ≠ 0 → V' vi = V vi) → post (nI (8 * hd' + hu' + 1)) (sF, sC, sH, sV, fl, bl, tl, (nI ln), (nI fs'), (nI hd'), (nI (hu'+1)), (nI vi), (nI vs), tc, pc, np, mo, (upd dk' (32 * hd' + hu' / 4) (ls_sb (dk' (32 * hd' + hu' / 4)) (hu' % 4) m)), (ls_f P), lv, (ls_f S'), (ls_f (ls_u V' hd' (V' hd' + 1))), op)) :
    wpX_takeSlot post (sF, sC, sH, sV, fl, bl, tl, (nI ln), (nI fs), (nI hd), (nI hu), (nI vi), (nI vs), tc, pc, np, mo, dk, (ls_f P), lv, (ls_f S), (ls_f V), op) (nI m) := by
  have h1 := h.1
  unfold wpX_takeSlot
  refine pk_lt hu 7 (fun l => ?_) (fun l => ?_) rfl rfl (by omega) (by decide)
  · exact ls_xTakeSlot18 h1.2.1 h1.2.2.1 l (k _ _ _ _ _ _ h l (by omega) rfl (fun _ _ => rfl) (fun _ => rfl))
  · obtain rfl : hu = 7 := by omega
    refine ls_xOpen h (by omega) (fun fs' hd' dk' S' V' o1 o2 o3 o4 o5 => ?_)
    refine br_f (by decide) ?_
    exact ls_xTakeSlot18 o1.1.2.1 o1.1.2.2.1 (by omega) (k _ _ _ _ _ _ o1 (by omega) (by omega) o3 o4 o5)
theorem ls_xNum30 {post : Int32 → SX → Prop} {J : Int32 → Int32 → Prop} {z i : Nat} {lnx : Int32} (z2 : z < 256) (hz : P z < 256)
    (k : P z = 0 → post (nI z) (sF, sC, sH, sV, fl, bl, tl, (nI z), (nI fs), (nI hd), (nI hu), (nI vi), (nI vs), tc, pc, np, mo, dk, (ls_f P), lv, (ls_f S), (ls_f V), op)) (kn : P z ≠ 0 → J (nI (i + 1)) (nI z)) : wX_takeNumber_30 post J (nI i) (nI z) sF sC sH sV fl bl tl lnx (nI fs) (nI hd) (nI hu) (nI vi) (nI vs) tc pc np mo dk (ls_f P) lv (ls_f S) (ls_f V) op := by
  unfold wX_takeNumber_30
  exact ⟨vp_in_nI z2 (by decide), pk_eq (P z) 0 k (fun e => nm_r (nI_1 i) (kn e)) (ls_fc (by omega)) rfl (by omega) (by decide)⟩
theorem ls_xNum2 {post : Int32 → SX → Prop} (hP : ∀ n, n < 256 → P n < 256) (k : ∀ g, 1 ≤ g → g ≤ 255 → P g = 0 → post (nI g) (sF, sC, sH, sV, fl, bl, tl, (nI g), (nI fs), (nI hd), (nI hu), (nI vi), (nI vs), tc, pc, np, mo, dk, (ls_f P), lv, (ls_f S), (ls_f V), op)) :
    ∀ j c i n, P (ls_it 255 j c) = 0 → 1 ≤ j → i + j ≤ 255 → c ≤ 255 → j < n → wX_takeNumber_2 post sF sC sH sV fl bl tl (nI fs) (nI hd) (nI hu) (nI vi) (nI vs) tc pc np mo dk (ls_f P) lv (ls_f S) (ls_f V) op n (nI i) (nI c) := by
  intro j
  induction j with
  | zero => intro c i n _ h1; omega
  | succ j ih =>
    intro c i n hS _ hi hc hn
    obtain ⟨n, rfl⟩ : ∃ n', n = n' + 1 := ⟨n - 1, by omega⟩
    have nx := ls_nx_lt (N := 255) (by decide) hc
    have hS' : P (ls_it 255 j (ls_nx 255 c)) = 0 := hS
    have main : ∀ lnx, wX_takeNumber_30 post (wX_takeNumber_2 post sF sC sH sV fl bl tl (nI fs) (nI hd) (nI hu) (nI vi) (nI vs) tc pc np mo dk (ls_f P) lv (ls_f S) (ls_f V) op n) (nI i) (nI (ls_nx 255 c)) sF sC sH sV fl bl tl lnx (nI fs) (nI hd) (nI hu) (nI vi) (nI vs) tc pc np mo dk (ls_f P) lv (ls_f S) (ls_f V) op := by
      intro lnx
      refine ls_xNum30 (by omega) (hP _ (by omega)) (fun e => k _ nx.1 nx.2 e) (fun ne => ?_)
      by_cases j0 : j = 0
      · subst j0; exact absurd hS' ne
      · exact ih _ _ _ hS' (by omega) (by omega) nx.2 (by omega)
    refine br_f (nI_ge (b := 255) (by omega) (by decide)) (pk_lt c 255 (fun l => ?_) (fun l => ?_) rfl rfl (by omega) (by decide))
    · rw [nI_1]
      rw [show ls_nx 255 c = c + 1 from if_pos l] at main
      exact main _
    · rw [show ls_nx 255 c = 1 from if_neg (by omega)] at main
      exact main _
theorem ls_LA_P (h : ls_LA ln fs hd hu vi vs dk P S V) : ∀ n, n < 256 → P n < 256 := by
  intro n hn
  by_cases z : P n = 0
  · omega
  · exact (h.2.2.2.2.2.1 n hn z).2.1
theorem ls_xTakeNumber {post : Int32 → SX → Prop} (h : ls_LA ln fs hd hu vi vs dk P S V) (hc : ls_cn (fun n => P n ≠ 0) 256 < 255)
    (k : ∀ g, 1 ≤ g → g ≤ 255 → P g = 0 → post (nI g) (sF, sC, sH, sV, fl, bl, tl, (nI g), (nI fs), (nI hd), (nI hu), (nI vi), (nI vs), tc, pc, np, mo, dk, (ls_f P), lv, (ls_f S), (ls_f V), op)) : wpX_takeNumber post (sF, sC, sH, sV, fl, bl, tl, (nI ln), (nI fs), (nI hd), (nI hu), (nI vi), (nI vs), tc, pc, np, mo, dk, (ls_f P), lv, (ls_f S), (ls_f V), op) := by
  obtain ⟨g, g1, g2, g0⟩ := ls_LAhole h hc
  obtain ⟨j, j1, j2, je⟩ := ls_it_to (N := 255) (l := ln) h.1.1 g1 g2
  unfold wpX_takeNumber
  exact ⟨j + 1, ls_xNum2 (ls_LA_P h) k j ln 0 (j + 1) (by rw [je]; exact g0) j1 (by omega) h.1.1 (by omega)⟩
theorem ls_LA_ln (h : ls_LA ln fs hd hu vi vs dk P S V) {g : Nat} (hg : g ≤ 255) : ls_LA g fs hd hu vi vs dk P S V := ⟨⟨hg, h.1.2⟩, h.2⟩
end
end
section
/-! ===== the cleaner ===== -/
def ls_G (D : Nat → Int32) (R : Nat → Nat → Int32) (pl : Nat → Prop) (ln fs hd hu vi vs : Nat) (dk : Nat → Int32) (P S V : Nat → Nat) : Prop :=
  ls_LA ln fs hd hu vi vs dk P S V ∧ ls_LC fs hu vi V ∧ ls_rd dk P = R ∧ ls_pl P = pl ∧ (∀ j, j < 32 → dk j = D j)
theorem ls_cn_pl {P : Nat → Nat} {pl : Nat → Prop} (h : ls_pl P = pl) : ls_cn (fun n => P n ≠ 0) 256 = ls_cn pl 256 := by
  subst h
  exact ls_cn_cg _ (fun n hn => ⟨fun z => ⟨hn, z⟩, fun z => z.2⟩)
/-- slots that will be to be had once the victim is empty -/
def ls_E (fs hu vi : Nat) (V : Nat → Nat) : Nat := if vi = 0 then 7 * fs + 7 - hu else 7 * fs + 14 - hu - V vi
def ls_cp (dk : Nat → Int32) (a b w : Nat) : Nat → Int32 := fun j => if 4 * a ≤ j ∧ j < 4 * a + w then dk (4 * b + (j - 4 * a)) else dk j
theorem ls_cp0 (dk : Nat → Int32) (a b : Nat) : ls_cp dk a b 0 = dk := by
  funext j
  exact if_neg (by omega)
theorem ls_cpS (dk : Nat → Int32) {a b w : Nat} (h : a ≠ b) (hw : w < 4) : upd (ls_cp dk a b w) (4 * a + w) (ls_cp dk a b w (4 * b + w)) = ls_cp dk a b (w + 1) := by
  funext j
  have e : ls_cp dk a b w (4 * b + w) = dk (4 * b + w) := if_neg (by omega)
  rw [e]
  by_cases c : j = 4 * a + w
  · subst c
    rw [pk_us]
    have e2 : ls_cp dk a b (w + 1) (4 * a + w) = dk (4 * b + (4 * a + w - 4 * a)) := if_pos (by omega)
    rw [e2]
    exact congrArg dk (by omega)
  · rw [pk_un c]
    by_cases d : 4 * a ≤ j ∧ j < 4 * a + w
    · exact (if_pos d).trans (if_pos (by omega)).symm
    · exact (if_neg d).trans (if_neg (by omega)).symm
theorem ls_cp_o (dk : Nat → Int32) {a b w j : Nat} (h : j < 4 * a ∨ 4 * a + w ≤ j) : ls_cp dk a b w j = dk j := if_neg (by omega)
theorem ls_cp_i (dk : Nat → Int32) {a b w i : Nat} (h : i < w) : ls_cp dk a b w (4 * a + i) = dk (4 * b + i) :=
  (if_pos (by omega)).trans (congrArg dk (by omega))
section
variable {sF sC sH sV fl bl tl tc pc np mo : Int32} {ln fs hd hu vi vs : Nat} {dk lv op : Nat → Int32} {P S V : Nat → Nat}
theorem ls_xMove14 {post : SX → Prop} {m a b : Nat} (m2 : m < 256) (a2 : a < 256) (b2 : b < 256) (hab : a ≠ b) (hV : 1 ≤ V (b / 8))
    (k : post (sF, sC, sH, sV, fl, bl, tl, (nI ln), (nI fs), (nI hd), (nI hu), (nI vi), (nI vs), tc, pc, np, mo, (ls_cp dk a b 4), (ls_f (ls_u P m a)), lv, (ls_f S), (ls_f (ls_u V (b / 8) (V (b / 8) - 1))), op)) :
    ∀ d w n, w + d = 4 → d < n → wX_moveBlock_14 post (nI m) (nI b) (nI a) sF sC sH sV fl bl tl (nI ln) (nI fs) (nI hd) (nI hu) (nI vi) (nI vs) tc pc np mo n (nI w) (ls_cp dk a b w) (ls_f P) lv (ls_f S) (ls_f V) op := by
  intro d
  induction d with
  | zero =>
    intro w n hw hn
    obtain ⟨n, rfl⟩ : ∃ n', n = n' + 1 := ⟨n - 1, by omega⟩
    obtain rfl : w = 4 := by omega
    refine br_t (nI_le (a := 4) (by omega) (by decide)) ⟨vp_in_nI m2 (by decide), nm_r (ls_uc (x := a) (by omega) rfl) ?_⟩
    rw [ls_sh3 (by omega)]
    refine ⟨vp_in_nI (by omega) (by decide), vp_in_nI (by omega) (by decide), nm_r (ls_uc (x := V (b / 8) - 1) (by omega) ?_) k⟩
    rw [ls_fc (by omega)]
    exact pk_sub (b := 1) hV
  | succ d ih =>
    intro w n hw hn
    obtain ⟨n, rfl⟩ : ∃ n', n = n' + 1 := ⟨n - 1, by omega⟩
    refine br_f (nI_ge (b := 4) (by omega) (by decide)) ?_
    rw [ls_4, ls_4, nI_add, nI_add]
    refine ⟨vp_in_nI (by omega) (by decide), vp_in_nI (by omega) (by decide), ?_⟩
    rw [nI_clamp (by omega), nI_clamp (by omega)]
    refine nm_r (ls_cpS dk hab (by omega)) (nm_r (nI_1 w) ?_)
    exact ih (w + 1) n (by omega) (by omega)
theorem ls_xMove0 {post : SX → Prop} {m a b : Nat} (m2 : m < 256) (a2 : a < 256) (b2 : b < 256) (hab : a ≠ b) (hV : 1 ≤ V (b / 8))
    (k : post (sF, sC, sH, sV, fl, bl, tl, (nI ln), (nI fs), (nI hd), (nI hu), (nI vi), (nI vs), tc, pc, np, mo, (ls_cp dk a b 4), (ls_f (ls_u P m a)), lv, (ls_f S), (ls_f (ls_u V (b / 8) (V (b / 8) - 1))), op)) :
    wX_moveBlock_14 post (nI m) (nI b) (nI a) sF sC sH sV fl bl tl (nI ln) (nI fs) (nI hd) (nI hu) (nI vi) (nI vs) tc pc np mo 5 0 dk (ls_f P) lv (ls_f S) (ls_f V) op := by
  have main := ls_xMove14 m2 a2 b2 hab hV k 4 0 5 (by omega) (by omega)
  rw [ls_cp0] at main
  exact main
theorem ls_xMove {post : SX → Prop} {m : Nat} {D : Nat → Int32} {R : Nat → Nat → Int32} {pl : Nat → Prop} (g : ls_G D R pl ln fs hd hu vi vs dk P S V) (hv : vi ≠ 0) (m2 : m < 256) (hm : P m = 8 * vi + vs)
    (k : ∀ fs' hd' hu' dk' P' S' V', ls_G D R pl ln fs' hd' hu' vi vs dk' P' S' V' → ls_E fs hu vi V ≤ ls_E fs' hu' vi V' → (∀ n, n < 256 → P' n ≠ 8 * vi + vs) → post (sF, sC, sH, sV, fl, bl, tl, (nI ln), (nI fs'), (nI hd'), (nI hu'), (nI vi), (nI vs), tc, pc, np, mo, dk', (ls_f P'), lv, (ls_f S'), (ls_f V'), op)) :
    wpX_moveBlock post (sF, sC, sH, sV, fl, bl, tl, (nI ln), (nI fs), (nI hd), (nI hu), (nI vi), (nI vs), tc, pc, np, mo, dk, (ls_f P), lv, (ls_f S), (ls_f V), op) (nI m) (nI (8 * vi + vs)) := by
  obtain ⟨h, hc, gR, gp, gl⟩ := g
  have hc := hc.2 hv
  have hd := h.2.2.1
  have m1 : 1 ≤ m := by
    rcases Nat.eq_zero_or_pos m with z | z
    · subst z; have := h.2.2.2.2.1; omega
    · exact z
  obtain ⟨d1, d2, d3, d4, d5⟩ : 1 ≤ vi ∧ vi < 32 ∧ S vi = 3 ∧ 1 ≤ vs ∧ vs ≤ 7 := by
    rcases hd with d | d
    · exact absurd d hv
    · exact d
  have hV1 : 1 ≤ V vi := by
    rw [h.2.2.2.2.2.2 vi d1 d2]
    exact ls_cn_pos (p := fun n => P n / 8 = vi) (n := m) (by show P m / 8 = vi; omega) m2
  unfold wpX_moveBlock
  refine ls_xTakeSlot h (by omega) (fun fs' hd' hu' dk' S' V' o h7 oe oR ol oV => ?_)
  have oV := oV hv
  have o1 := o.1
  have hne : vi ≠ hd' := by
    intro z
    rcases o.2.2.1 with d | d
    · omega
    · rw [z] at d; omega
  refine br_f (nI_ne0 (by omega) (by omega)) ⟨5, ?_⟩
  have hb8 : (8 * vi + vs) / 8 = vi := by omega
  refine ls_xMove0 (by omega) (by omega) (by omega) (by omega) (by rw [hb8, ls_un hne]; omega) ?_
  · rw [hb8, ls_un hne]
    have p := ls_LAput o h7 m1 m2 (dk' := ls_cp (upd dk' (32 * hd' + hu' / 4) (ls_sb (dk' (32 * hd' + hu' / 4)) (hu' % 4) m)) (8 * hd' + hu' + 1) (8 * vi + vs) 4) (by
        rw [ls_cp_o _ (by omega), pk_us]) (fun j j1 j2 => by rw [ls_cp_o _ (by omega), pk_un j1]) (ls_Vmove o h7 hv m2 (by omega))
    obtain ⟨p1, p2, p3, p4⟩ := p
    refine k _ _ _ _ _ _ _ ⟨p1, ⟨fun z => absurd z hv, fun _ => ?_⟩, ?_, ?_, fun j hj => (p4 j hj).trans ((ol j hj).trans (gl j hj))⟩ ?_ ?_
    · rw [ls_us, oV]; omega
    · rw [← gR, ← oR]
      funext n w
      by_cases en : n = m
      · subst en
        by_cases hw : w < 4
        · rw [p3 w hw, ls_cp_i _ hw, ls_rdE m2 hw, hm, pk_un (by omega)]
        · unfold ls_rd
          rw [if_neg (by omega), if_neg (by omega)]
      · exact p2 n w en
    · rw [← gp]
      funext n
      unfold ls_pl
      by_cases en : n = m
      · subst en; rw [ls_us, hm]; exact propext ⟨fun z => ⟨z.1, by omega⟩, fun z => ⟨z.1, by omega⟩⟩
      · rw [ls_un en]
    · unfold ls_E
      rw [if_neg hv, if_neg hv, ls_us, oV]
      omega
    · intro n hn
      by_cases en : n = m
      · subst en; rw [ls_us]; omega
      · rw [ls_un en]
        intro z
        have q1 := (h.2.2.2.2.2.1 n hn (by omega)).2.2.2.2.2.2
        have q2 := (h.2.2.2.2.2.1 m m2 (by omega)).2.2.2.2.2.2
        rw [z] at q1
        rw [hm] at q2
        exact en (q1.symm.trans q2)

theorem ls_xClean77 {post : SX → Prop} {D : Nat → Int32} {R : Nat → Nat → Int32} {pl : Nat → Prop} (g : ls_G D R pl ln fs hd hu vi vs dk P S V) (hv : vi ≠ 0) (hn : ∀ n, n < 256 → P n ≠ 8 * vi + vs)
    (k : ∀ fs' vi' vs' S', ls_G D R pl ln fs' hd hu vi' vs' dk P S' V → ls_E fs hu vi V ≤ ls_E fs' hu vi' V → (vi' = 0 ∨ (vi' = vi ∧ vs' = vs + 1)) → post (sF, sC, sH, sV, fl, bl, tl, (nI ln), (nI fs'), (nI hd), (nI hu), (nI vi'), (nI vs'), tc, pc, np, mo, dk, (ls_f P), lv, (ls_f S'), (ls_f V), op)) :
    wX_cleanStep_77 post sF sC sH sV fl bl tl (nI ln) (nI fs) (nI hd) (nI hu) (nI vi) (nI vs) tc pc np mo dk (ls_f P) lv (ls_f S) (ls_f V) op := by
  obtain ⟨h, hc, gR, gp, gl⟩ := g
  have hc2 := hc.2 hv
  obtain ⟨d1, d2, d3, d4, d5⟩ : 1 ≤ vi ∧ vi < 32 ∧ S vi = 3 ∧ 1 ≤ vs ∧ vs ≤ 7 := by
    rcases h.2.2.1 with d | d
    · exact absurd d hv
    · exact d
  unfold wX_cleanStep_77
  refine nm_r (nI_1 vs) ⟨vp_in_nI d2 (by decide), pk_eq (V vi) 0 (fun e => ?_) (fun e => ?_) (ls_fc (by omega)) rfl (by omega) (by decide)⟩
  · refine ls_xRel d2 ?_
    refine k (fs + 1) 0 (vs + 1) (ls_u S vi 0) ⟨ls_LArel h d1 d2 (Or.inr d3) e (Or.inr ⟨rfl, rfl⟩), ⟨fun _ => by omega, fun z => absurd rfl z⟩, gR, gp, gl⟩ ?_ (Or.inl rfl)
    unfold ls_E
    rw [if_neg hv, if_pos rfl]
    omega
  · by_cases h7 : vs < 7
    · refine br_t (nI_le (b := 7) (by omega) (by decide)) ?_
      exact k fs vi (vs + 1) S ⟨ls_LAskip h hn h7, hc, gR, gp, gl⟩ (Nat.le_refl _) (Or.inr ⟨rfl, rfl⟩)
    · obtain rfl : vs = 7 := by omega
      exact absurd (ls_LAlast h hv hn) e
theorem ls_xCleanStep {post : SX → Prop} {D : Nat → Int32} {R : Nat → Nat → Int32} {pl : Nat → Prop} (g : ls_G D R pl ln fs hd hu vi vs dk P S V) (hv : vi ≠ 0)
    (k : ∀ fs' hd' hu' vi' vs' dk' P' S' V', ls_G D R pl ln fs' hd' hu' vi' vs' dk' P' S' V' → ls_E fs hu vi V ≤ ls_E fs' hu' vi' V' → (vi' = 0 ∨ (vi' = vi ∧ vs' = vs + 1)) → post (sF, sC, sH, sV, fl, bl, tl, (nI ln), (nI fs'), (nI hd'), (nI hu'), (nI vi'), (nI vs'), tc, pc, np, mo, dk', (ls_f P'), lv, (ls_f S'), (ls_f V'), op)) :
    wpX_cleanStep post (sF, sC, sH, sV, fl, bl, tl, (nI ln), (nI fs), (nI hd), (nI hu), (nI vi), (nI vs), tc, pc, np, mo, dk, (ls_f P), lv, (ls_f S), (ls_f V), op) := by
  have h := g.1
  obtain ⟨d1, d2, d3, d4, d5⟩ : 1 ≤ vi ∧ vi < 32 ∧ S vi = 3 ∧ 1 ≤ vs ∧ vs ≤ 7 := by
    rcases h.2.2.1 with d | d
    · exact absurd d hv
    · exact d
  have q1 : (8 * vi + vs) / 8 = vi := by omega
  have q2 : (8 * vi + vs) % 8 = vs := by omega
  have hsn : ls_sn dk (8 * vi + vs) = ls_gb (dk (32 * vi + (vs - 1) / 4)) ((vs - 1) % 4) := by
    unfold ls_sn ls_sa
    rw [q1, q2]
  have hall : ∀ n, n < 256 → P n = 8 * vi + vs → 1 ≤ n ∧ n = ls_sn dk (8 * vi + vs) := by
    intro n hn e
    have w := (h.2.2.2.2.2.1 n hn (by omega)).2.2.2.2.2.2
    rw [e] at w
    refine ⟨?_, w.symm⟩
    rcases Nat.eq_zero_or_pos n with z | z
    · subst z; have := h.2.2.2.2.1; omega
    · exact z
  unfold wpX_cleanStep
  refine br_f (nI_ne0 (by omega) (by omega)) (nm_r (e' := nI (vs - 1)) (pk_sub (b := 1) d4) ?_)
  rw [ls_sh2 (by omega), ls_32, nI_add]
  refine ⟨vp_in_nI (by omega) (by decide), ?_⟩
  rw [nI_clamp (by omega)]
  refine nm_e ?_
  refine ls_xGB _ (i := (vs - 1) % 4) (ls_a3 (by omega)) (by omega) ?_
  rw [← hsn]
  refine nm_r (e' := nI (8 * vi + vs)) (by rw [ls_8, nI_add]) ?_
  have hlt : ls_sn dk (8 * vi + vs) < 256 := ls_gb_lt _ _
  refine pk_eq (ls_sn dk (8 * vi + vs)) 0 (fun e => ?_) (fun e => ?_) rfl rfl (by omega) (by decide)
  · exact ls_xClean77 g hv (fun n hn z => by have := hall n hn z; omega) (fun _ _ _ _ a b c => k _ _ _ _ _ _ _ _ _ a b c)
  · refine ⟨vp_in_nI hlt (by decide), ?_⟩
    have hPl := ls_LA_P h _ hlt
    refine pk_eq (P (ls_sn dk (8 * vi + vs))) (8 * vi + vs) (fun e2 => ?_) (fun e2 => ?_) (ls_fc (by omega)) rfl (by omega) (by omega)
    · refine ls_xMove g hv hlt e2 (fun fs' hd' hu' dk' P' S' V' g' e' n' => ?_)
      exact ls_xClean77 g' hv n' (fun _ _ _ _ a b c => k _ _ _ _ _ _ _ _ _ a (Nat.le_trans e' b) c)
    · exact ls_xClean77 g hv (fun n hn z => by have w := hall n hn z; rw [← w.2] at e2; exact e2 z) (fun _ _ _ _ a b c => k _ _ _ _ _ _ _ _ _ a b c)
theorem ls_xChoose7 {post : SX → Prop} (hV : ∀ s, 1 ≤ s → s < 32 → V s ≤ 256) (hS : ∀ s, 1 ≤ s → s < 32 → S s ≤ 3)
    (k0 : (∀ t, 1 ≤ t → t < 32 → S t = 1 → 7 ≤ V t) → post (sF, sC, sH, sV, fl, bl, tl, (nI ln), (nI fs), (nI hd), (nI hu), (nI vi), (nI vs), tc, pc, np, mo, dk, (ls_f P), lv, (ls_f S), (ls_f V), op))
    (k1 : ∀ b, 1 ≤ b → b < 32 → S b = 1 → V b < 7 → (∀ t, 1 ≤ t → t < 32 → S t = 1 → V b ≤ V t) → post (sF, sC, sH, sV, fl, bl, tl, (nI ln), (nI fs), (nI hd), (nI hu), (nI b), (nI 1), tc, pc, np, mo, dk, (ls_f P), lv, (ls_f (ls_u S b 3)), (ls_f V), op)) :
    ∀ d s n b bl', s + d = 32 → d < n → 1 ≤ s → ((b = 0 ∧ bl' = 7) ∨ (1 ≤ b ∧ b < s ∧ S b = 1 ∧ V b = bl' ∧ bl' < 7)) → (∀ t, 1 ≤ t → t < s → S t = 1 → bl' ≤ V t) → wX_chooseVictim_7 post sF sC sH sV fl bl tl (nI ln) (nI fs) (nI hd) (nI hu) (nI vi) (nI vs) tc pc np mo dk (ls_f P) lv (ls_f S) (ls_f V) op n (nI b) (nI bl') (nI s) := by
  intro d
  induction d with
  | zero =>
    intro s n b bl' hs hn s1 hb hm
    obtain ⟨n, rfl⟩ : ∃ n', n = n' + 1 := ⟨n - 1, by omega⟩
    obtain rfl : s = 32 := by omega
    refine br_t (nI_le (a := 32) (by omega) (by decide)) (pk_eq b 0 (fun e => ?_) (fun e => ?_) rfl rfl (by omega) (by decide))
    · rcases hb with ⟨b1, b2⟩ | ⟨b1, b2, b3, b4, b5⟩
      · subst b2; exact k0 hm
      · omega
    · rcases hb with ⟨b1, b2⟩ | ⟨b1, b2, b3, b4, b5⟩
      · exact absurd b1 e
      · subst b4
        exact ⟨vp_in_nI b2 (by decide), nm_r (ls_uc (x := 3) (by omega) rfl) (k1 b b1 b2 b3 b5 hm)⟩
  | succ d ih =>
    intro s n b bl' hs hn s1 hb hm
    obtain ⟨n, rfl⟩ : ∃ n', n = n' + 1 := ⟨n - 1, by omega⟩
    have hs' := hS s s1 (by omega)
    have hv' := hV s s1 (by omega)
    have hb' : bl' ≤ 7 := by omega
    refine br_f (nI_ge (b := 32) (by omega) (by decide)) ⟨vp_in_nI (by omega) (by decide), pk_eq (S s) 1 (fun e => ?_) (fun e => ?_) (ls_fc (by omega)) rfl (by omega) (by decide)⟩
    · refine ⟨vp_in_nI (by omega) (by decide), pk_le bl' (V s) (fun l => ?_) (fun l => ?_) rfl (ls_fc (by omega)) (by omega) (by omega)⟩
      · refine nm_r (nI_1 s) (ih (s + 1) n b bl' (by omega) (by omega) (by omega) ?_ ?_)
        · rcases hb with hb | ⟨b1, b2, b3⟩
          · exact Or.inl hb
          · exact Or.inr ⟨b1, by omega, b3⟩
        · intro t t1 t2 t3
          by_cases z : t = s
          · subst z; exact l
          · exact hm t t1 (by omega) t3
      · refine ⟨vp_in_nI (by omega) (by decide), nm_r (ls_fc (by omega)) (nm_r (nI_1 s) (ih (s + 1) n s (V s) (by omega) (by omega) (by omega) (Or.inr ⟨s1, by omega, e, rfl, by omega⟩) ?_))⟩
        intro t t1 t2 t3
        by_cases z : t = s
        · subst z; exact Nat.le_refl _
        · have := hm t t1 (by omega) t3; omega
    · refine nm_r (nI_1 s) (ih (s + 1) n b bl' (by omega) (by omega) (by omega) ?_ ?_)
      · rcases hb with hb | ⟨b1, b2, b3⟩
        · exact Or.inl hb
        · exact Or.inr ⟨b1, by omega, b3⟩
      · intro t t1 t2 t3
        by_cases z : t = s
        · subst z; exact absurd t3 e
        · exact hm t t1 (by omega) t3
theorem ls_xChoose {post : SX → Prop} (h : ls_LA ln fs hd hu vi vs dk P S V)
    (k0 : (∀ t, 1 ≤ t → t < 32 → S t = 1 → 7 ≤ V t) → post (sF, sC, sH, sV, fl, bl, tl, (nI ln), (nI fs), (nI hd), (nI hu), (nI vi), (nI vs), tc, pc, np, mo, dk, (ls_f P), lv, (ls_f S), (ls_f V), op))
    (k1 : ∀ b, 1 ≤ b → b < 32 → S b = 1 → V b < 7 → (∀ t, 1 ≤ t → t < 32 → S t = 1 → V b ≤ V t) → post (sF, sC, sH, sV, fl, bl, tl, (nI ln), (nI fs), (nI hd), (nI hu), (nI b), (nI 1), tc, pc, np, mo, dk, (ls_f P), lv, (ls_f (ls_u S b 3)), (ls_f V), op)) : wpX_chooseVictim post (sF, sC, sH, sV, fl, bl, tl, (nI ln), (nI fs), (nI hd), (nI hu), (nI vi), (nI vs), tc, pc, np, mo, dk, (ls_f P), lv, (ls_f S), (ls_f V), op) := by
  unfold wpX_chooseVictim
  exact ⟨32, ls_xChoose7 (fun s s1 s2 => by rw [h.2.2.2.2.2.2 s s1 s2]; exact ls_cn_up _) (fun s s1 s2 => (h.2.1 s s1 s2).1) k0 k1 31 1 32 0 7 (by omega) (by omega) (by omega) (Or.inl ⟨rfl, rfl⟩) (fun t t1 t2 => by omega)⟩
end
section
variable {sF sC sH sV fl bl tl tc pc np mo : Int32} {lv op : Nat → Int32} {D : Nat → Int32} {R : Nat → Nat → Int32} {pl : Nat → Prop} {ln : Nat}
theorem ls_xRoom29 {post : SX → Prop} {J : Int32 → Int32 → Int32 → Int32 → Int32 → Int32 → Int32 → Int32 → Int32 → Int32 → Int32 → Int32 → Int32 → Int32 → Int32 → Int32 → Int32 → Int32 → (Nat → Int32) → (Nat → Int32) → (Nat → Int32) → (Nat → Int32) → (Nat → Int32) → (Nat → Int32) → Prop} {x e0 : Nat}
    (k : ∀ fs hd hu vs dk P S V, ls_G D R pl ln fs hd hu 0 vs dk P S V → e0 ≤ ls_E fs hu 0 V → J (nI (x + 1)) sF sC sH sV fl bl tl (nI ln) (nI fs) (nI hd) (nI hu) (nI 0) (nI vs) tc pc np mo dk (ls_f P) lv (ls_f S) (ls_f V) op) :
    ∀ d i n fs hd hu vi vs dk P S V, i + d = 7 → d < n → ls_G D R pl ln fs hd hu vi vs dk P S V → e0 ≤ ls_E fs hu vi V → (vi ≠ 0 → i + 1 ≤ vs) → wX_makeRoom_29 post J (nI x) n (nI i) sF sC sH sV fl bl tl (nI ln) (nI fs) (nI hd) (nI hu) (nI vi) (nI vs) tc pc np mo dk (ls_f P) lv (ls_f S) (ls_f V) op := by
  intro d
  induction d with
  | zero =>
    intro i n fs hd hu vi vs dk P S V hi hn g he hv
    obtain ⟨n, rfl⟩ : ∃ n', n = n' + 1 := ⟨n - 1, by omega⟩
    obtain rfl : i = 7 := by omega
    have v0 : vi = 0 := by
      apply Classical.byContradiction
      intro z
      have a := hv z
      rcases g.1.2.2.1 with d | d <;> omega
    subst v0
    exact br_t (nI_le (a := 7) (by omega) (by decide)) (nm_r (nI_1 x) (k _ _ _ _ _ _ _ _ g he))
  | succ d ih =>
    intro i n fs hd hu vi vs dk P S V hi hn g he hv
    obtain ⟨n, rfl⟩ : ∃ n', n = n' + 1 := ⟨n - 1, by omega⟩
    have hvl : vi < 32 := by rcases g.1.2.2.1 with d | d <;> omega
    refine br_f (nI_ge (b := 7) (by omega) (by decide)) (pk_eq vi 0 (fun e => ?_) (fun e => ?_) rfl rfl (by omega) (by decide))
    · subst e
      exact nm_r (nI_1 x) (k _ _ _ _ _ _ _ _ g he)
    · refine ls_xCleanStep g e (fun fs' hd' hu' vi' vs' dk' P' S' V' g' e' h' => ?_)
      refine nm_r (nI_1 i) (ih (i + 1) n _ _ _ _ _ _ _ _ _ (by omega) (by omega) g' (Nat.le_trans he e') (fun z => ?_))
      have a := hv e
      omega
theorem ls_xRoom2 {post : SX → Prop} (hc : ls_cn pl 256 ≤ 138)
    (k : ∀ fs hd hu vi vs dk P S V, ls_G D R pl ln fs hd hu vi vs dk P S V → 2 ≤ fs → post (sF, sC, sH, sV, fl, bl, tl, (nI ln), (nI fs), (nI hd), (nI hu), (nI vi), (nI vs), tc, pc, np, mo, dk, (ls_f P), lv, (ls_f S), (ls_f V), op)) :
    ∀ d x n fs hd hu vi vs dk P S V, x + d = 32 → d < n → ls_G D R pl ln fs hd hu vi vs dk P S V → (x = 0 ∨ vi = 0) → 3 * x ≤ ls_E fs hu vi V + 3 → wX_makeRoom_2 post n (nI x) sF sC sH sV fl bl tl (nI ln) (nI fs) (nI hd) (nI hu) (nI vi) (nI vs) tc pc np mo dk (ls_f P) lv (ls_f S) (ls_f V) op := by
  intro d
  induction d with
  | zero =>
    intro x n fs hd hu vi vs dk P S V hi hn g hx he
    obtain ⟨n, rfl⟩ : ∃ n', n = n' + 1 := ⟨n - 1, by omega⟩
    obtain rfl : x = 32 := by omega
    refine br_t (nI_le (a := 32) (by omega) (by decide)) (k _ _ _ _ _ _ _ _ _ g ?_)
    obtain rfl : vi = 0 := by omega
    unfold ls_E at he
    rw [if_pos rfl] at he
    omega
  | succ d ih =>
    intro x n fs hd hu vi vs dk P S V hi hn g hx he
    obtain ⟨n, rfl⟩ : ∃ n', n = n' + 1 := ⟨n - 1, by omega⟩
    have hvl : vi < 32 := by rcases g.1.2.2.1 with d | d <;> omega
    have hfl : fs ≤ 32 := by rw [g.1.2.2.2.1]; exact ls_cn_up _
    have hhu := g.1.1.2.2.2.1
    refine br_f (nI_ge (b := 32) (by omega) (by decide)) (pk_le 2 fs (fun l => k _ _ _ _ _ _ _ _ _ g l) (fun l => ?_) rfl rfl (by decide) (by omega))
    refine pk_eq vi 0 (fun e => ?_) (fun e => ?_) rfl rfl (by omega) (by decide)
    · subst e
      have f1 := g.2.1.1 rfl
      obtain ⟨t, t1, t2, t3, t4⟩ := ls_LAfew g.1 (by omega) (by rw [ls_cn_pl g.2.2.2.1]; exact hc)
      refine ls_xChoose g.1 (fun z => ?_) (fun b b1 b2 b3 b4 b5 => ?_)
      · have := z t t1 t2 t3; omega
      · have bt := b5 t t1 t2 t3
        have hbE : ls_E fs hu 0 V + 3 ≤ ls_E fs hu b V := by
          unfold ls_E
          rw [if_pos rfl, if_neg (by omega)]
          omega
        refine ⟨8, ls_xRoom29 (e0 := ls_E fs hu 0 V + 3) (fun fs' hd' hu' vs' dk' P' S' V' g' e' => ?_) 7 0 8 fs hd hu b 1 dk P (ls_u S b 3) V (by omega) (by omega) ⟨ls_LAchoose g.1 b1 b2 b3, ⟨fun z => by omega, fun _ => ⟨by omega, by omega⟩⟩, g.2.2⟩ hbE (fun _ => by omega)⟩
        exact ih (x + 1) n _ _ _ _ _ _ _ _ _ (by omega) (by omega) g' (Or.inr rfl) (by omega)
    · have x0 : x = 0 := by omega
      subst x0
      refine ⟨8, ls_xRoom29 (e0 := 0) (fun fs' hd' hu' vs' dk' P' S' V' g' e' => ?_) 7 0 8 fs hd hu vi vs dk P S V (by omega) (by omega) g (by omega) (fun _ => ?_)⟩
      · exact ih 1 n _ _ _ _ _ _ _ _ _ (by omega) (by omega) g' (Or.inr rfl) (by omega)
      · rcases g.1.2.2.1 with d | d <;> omega
theorem ls_xClean18 {post : Int32 → SX → Prop} {a : Int32}
    (k : ∀ fs hd hu vi vs dk P S V, ls_G D R pl ln fs hd hu vi vs dk P S V → post 0 (sF, sC, sH, sV, fl, bl, tl, (nI ln), (nI fs), (nI hd), (nI hu), (nI vi), (nI vs), tc, pc, np, mo, dk, (ls_f P), lv, (ls_f S), (ls_f V), op)) :
    ∀ d x n fs hd hu vi vs dk P S V, x + d = 64 → d < n → ls_G D R pl ln fs hd hu vi vs dk P S V → wX_clean_18 post a n (nI x) sF sC sH sV fl bl tl (nI ln) (nI fs) (nI hd) (nI hu) (nI vi) (nI vs) tc pc np mo dk (ls_f P) lv (ls_f S) (ls_f V) op := by
  intro d
  induction d with
  | zero =>
    intro x n fs hd hu vi vs dk P S V hi hn g
    obtain ⟨n, rfl⟩ : ∃ n', n = n' + 1 := ⟨n - 1, by omega⟩
    obtain rfl : x = 64 := by omega
    exact br_t (nI_le (a := 64) (by omega) (by decide)) (k _ _ _ _ _ _ _ _ _ g)
  | succ d ih =>
    intro x n fs hd hu vi vs dk P S V hi hn g
    obtain ⟨n, rfl⟩ : ∃ n', n = n' + 1 := ⟨n - 1, by omega⟩
    have hfl : fs ≤ 32 := by rw [g.1.2.2.2.1]; exact ls_cn_up _
    have hhu := g.1.1.2.2.2.1
    have step : ∀ fs hd hu vi vs dk P S V, ls_G D R pl ln fs hd hu vi vs dk P S V → wX_clean_47 post (wX_clean_18 post a n) a (nI x) sF sC sH sV fl bl tl (nI ln) (nI fs) (nI hd) (nI hu) (nI vi) (nI vs) tc pc np mo dk (ls_f P) lv (ls_f S) (ls_f V) op := by
      intro fs hd hu vi vs dk P S V g
      have hvl : vi < 32 := by rcases g.1.2.2.1 with d | d <;> omega
      unfold wX_clean_47
      by_cases e : vi = 0
      · subst e
        unfold wpX_cleanStep
        exact br_t rfl (nm_r (nI_1 x) (ih (x + 1) n _ _ _ _ _ _ _ _ _ (by omega) (by omega) g))
      · exact ls_xCleanStep g e (fun fs' hd' hu' vi' vs' dk' P' S' V' g' _ _ => nm_r (nI_1 x) (ih (x + 1) n _ _ _ _ _ _ _ _ _ (by omega) (by omega) g'))
    refine br_f (nI_ge (b := 64) (by omega) (by decide)) (br_c (fun _ => k _ _ _ _ _ _ _ _ _ g) (fun _ => ?_))
    have hvl : vi < 32 := by rcases g.1.2.2.1 with d | d <;> omega
    refine pk_eq vi 0 (fun e => ?_) (fun e => step _ _ _ _ _ _ _ _ _ g) rfl rfl (by omega) (by decide)
    subst e
    refine pk_le fs 0 (fun _ => step _ _ _ _ _ _ _ _ _ g) (fun l => ?_) rfl rfl (by omega) (by decide)
    refine ls_xChoose g.1 (fun _ => step _ _ _ _ _ _ _ _ _ g) (fun b b1 b2 b3 b4 b5 => ?_)
    exact step _ _ _ _ _ _ _ _ _ ⟨ls_LAchoose g.1 b1 b2 b3, ⟨fun z => by omega, fun _ => ⟨by omega, by omega⟩⟩, g.2.2⟩
end
end
section
/-! ===== the log as the trees see it: R n w, pl n, q appends allowed ===== -/
def ls_HX (sF sC sH sV fl bl tl tc pc np mo : Int32) (op : Nat → Int32) (D : Nat → Int32) (R : Nat → Nat → Int32) (pl : Nat → Prop) (q : Nat) (u : SX) : Prop :=
  ∃ (ln fs hd hu vi vs : Nat) (dk : Nat → Int32) (P : Nat → Nat) (lv : Nat → Int32) (S V : Nat → Nat), u = (sF, sC, sH, sV, fl, bl, tl, (nI ln), (nI fs), (nI hd), (nI hu), (nI vi), (nI vs), tc, pc, np, mo, dk, (ls_f P), lv, (ls_f S), (ls_f V), op) ∧ ls_G D R pl ln fs hd hu vi vs dk P S V ∧ (q = 0 ∨ (hu + q ≤ 7 * fs ∧ ls_cn pl 256 + q ≤ 200))
def ls_s4 (R : Nat → Nat → Int32) (g : Nat) (w0 w1 w2 w3 : Int32) : Nat → Nat → Int32 := fun n w => if n = g then (if w = 0 then w0 else if w = 1 then w1 else if w = 2 then w2 else if w = 3 then w3 else 0) else R n w
def ls_ad (pl : Nat → Prop) (g : Nat) : Nat → Prop := fun n => pl n ∨ n = g
def ls_ino (R : Nat → Nat → Int32) (r f : Nat) : Nat := ls_gb (R r (f / 4)) (f % 4)
def ls_dat (R : Nat → Nat → Int32) (i b : Nat) : Nat := ls_gb (R i 1) b
def ls_bf (s : Nat) : Nat := (s + 3) / 4
section
variable {sF sC sH sV fl bl tl tc pc np mo : Int32} {op : Nat → Int32} {D : Nat → Int32} {R : Nat → Nat → Int32} {pl : Nat → Prop} {q : Nat} {u : SX}
theorem ls_HXe {Q : SX → Prop} (h : ls_HX sF sC sH sV fl bl tl tc pc np mo op D R pl q u) (k : ∀ (ln fs hd hu vi vs : Nat) (dk : Nat → Int32) (P : Nat → Nat) (lv : Nat → Int32) (S V : Nat → Nat), ls_G D R pl ln fs hd hu vi vs dk P S V → (q = 0 ∨ (hu + q ≤ 7 * fs ∧ ls_cn pl 256 + q ≤ 200)) → Q (sF, sC, sH, sV, fl, bl, tl, (nI ln), (nI fs), (nI hd), (nI hu), (nI vi), (nI vs), tc, pc, np, mo, dk, (ls_f P), lv, (ls_f S), (ls_f V), op)) : Q u := by
  obtain ⟨ln, fs, hd, hu, vi, vs, dk, P, lv, S, V, rfl, g, b⟩ := h
  exact k _ _ _ _ _ _ _ _ _ _ _ g b
theorem ls_HXs {Q : SX → Prop} (h : ls_HX sF sC sH sV fl bl tl tc pc np mo op D R pl q u) (k : ∀ (ln fs hd hu vi vs : Int32) (dk pa lv ss sl : Nat → Int32), ls_HX sF sC sH sV fl bl tl tc pc np mo op D R pl q (sF, sC, sH, sV, fl, bl, tl, ln, fs, hd, hu, vi, vs, tc, pc, np, mo, dk, pa, lv, ss, sl, op) → Q (sF, sC, sH, sV, fl, bl, tl, ln, fs, hd, hu, vi, vs, tc, pc, np, mo, dk, pa, lv, ss, sl, op)) : Q u := by
  obtain ⟨ln, fs, hd, hu, vi, vs, dk, P, lv, S, V, rfl, g, b⟩ := h
  exact k _ _ _ _ _ _ _ _ _ _ _ ⟨ln, fs, hd, hu, vi, vs, dk, P, lv, S, V, rfl, g, b⟩
theorem ls_HX0 (h : ls_HX sF sC sH sV fl bl tl tc pc np mo op D R pl q u) : ls_HX sF sC sH sV fl bl tl tc pc np mo op D R pl 0 u := by
  obtain ⟨ln, fs, hd, hu, vi, vs, dk, P, lv, S, V, rfl, g, b⟩ := h
  exact ⟨ln, fs, hd, hu, vi, vs, dk, P, lv, S, V, rfl, g, Or.inl rfl⟩
theorem ls_HXp (h : ls_HX sF sC sH sV fl bl tl tc pc np mo op D R pl q u) : ∀ n, pl n → n < 256 ∧ n ≠ 0 := by
  obtain ⟨ln, fs, hd, hu, vi, vs, dk, P, lv, S, V, rfl, g, b⟩ := h
  obtain ⟨g1, g2, g3, g4, g5⟩ := g
  subst g4
  intro n hn
  refine ⟨hn.1, fun z => ?_⟩
  subst z
  exact hn.2 g1.2.2.2.2.1
theorem ls_HXn (h : ls_HX sF sC sH sV fl bl tl tc pc np mo op D R pl q u) : ∀ n w, n < 256 → w < 4 → ¬ pl n → R n w = D w := by
  obtain ⟨ln, fs, hd, hu, vi, vs, dk, P, lv, S, V, rfl, g, b⟩ := h
  obtain ⟨g1, g2, g3, g4, g5⟩ := g
  subst g4 g3
  intro n w hn hw hp
  have z : P n = 0 := by
    apply Classical.byContradiction
    intro z
    exact hp ⟨hn, z⟩
  rw [ls_rdE hn hw, z]
  show dk (4 * 0 + w) = _
  rw [show 4 * 0 + w = w from by omega]
  exact g5 w (by omega)
theorem ls_xRead {post : Int32 → Prop} {n w : Nat} {p0 p1 : Int32} (h : ls_HX sF sC sH sV fl bl tl tc pc np mo op D R pl q u) (hn : n < 256) (hw : w < 4) (k : post (R n w)) (e0 : p0 = nI n := by rfl) (e1 : p1 = nI w := by rfl) : wpX_readWord post u p0 p1 := by
  subst e0 e1
  refine ls_HXe (Q := fun u => wpX_readWord post u (nI n) (nI w)) h ?_
  intro ln fs hd hu vi vs dk P lv S V g _
  have hP := ls_LA_P g.1 n hn
  unfold wpX_readWord
  have e : nI n &&& 255 = nI n := by
    rw [pk_andN (k := 8) (by omega) (by decide)]
    exact congrArg nI (by omega)
  dsimp only
  rw [e, ls_fc (by omega), ls_4, ls_a3' hw, nI_add]
  refine ⟨vp_in_nI hn (by decide), vp_in_nI (by omega) (by decide), ?_⟩
  rw [nI_clamp (by omega), ← ls_rdE (dk := dk) (P := P) hn hw, g.2.2.1]
  exact k
theorem ls_xIno {post : Int32 → Prop} {r f : Nat} {p0 p1 : Int32} (h : ls_HX sF sC sH sV fl bl tl tc pc np mo op D R pl q u) (hr : r < 256) (hf : f < 8) (k : post (nI (ls_ino R r f))) (e0 : p0 = nI r := by rfl) (e1 : p1 = nI f := by rfl) : wpX_inodeOf post u p0 p1 := by
  subst e0 e1
  refine ls_HXs (Q := fun u => wpX_inodeOf post u (nI r) (nI f)) h ?_
  intro ln fs hd hu vi vs dk pa lv ss sl h
  unfold wpX_inodeOf
  refine ls_xRead h hr (w := f / 4) (by omega) ?_ rfl (ls_sh2 (by omega))
  exact ls_xGB _ (i := f % 4) (ls_a3 (by omega)) (by omega) k
theorem ls_xPres {post : Int32 → Prop} {i p g s : Nat} {p0 : Int32} (h : ls_HX sF sC sH sV fl bl tl tc pc np mo op D R pl q u) (hi : i < 256) (e : R i 0 = nI (ls_hd p g s)) (hp : p < 2) (hg : g < 16) (hs : s < 32) (k : post (nI p)) (e0 : p0 = nI i := by rfl) : wpX_isPresent post u p0 := by
  subst e0
  refine ls_HXs (Q := fun u => wpX_isPresent post u (nI i)) h ?_
  intro ln fs hd hu vi vs dk pa lv ss sl h
  unfold wpX_isPresent
  refine ls_xRead h hi (w := 0) (by omega) ?_
  rw [e, ls_hdP hp hg hs]
  refine pk_eq p 0 (fun z => ?_) (fun z => ?_) rfl rfl (by omega) (by decide)
  · subst z; exact k
  · obtain rfl : p = 1 := by omega
    exact k
theorem ls_xGen {post : Int32 → Prop} {i p g s : Nat} {p0 : Int32} (h : ls_HX sF sC sH sV fl bl tl tc pc np mo op D R pl q u) (hi : i < 256) (e : R i 0 = nI (ls_hd p g s)) (hp : p < 2) (hg : g < 16) (hs : s < 32) (k : post (nI g)) (e0 : p0 = nI i := by rfl) : wpX_inodeGeneration post u p0 := by
  subst e0
  refine ls_HXs (Q := fun u => wpX_inodeGeneration post u (nI i)) h ?_
  intro ln fs hd hu vi vs dk pa lv ss sl h
  unfold wpX_inodeGeneration
  refine ls_xRead h hi (w := 0) (by omega) ?_
  rw [e, ls_hdG hp hg hs]
  exact k
theorem ls_16 {g : Nat} (hg : g < 2 ^ 31 - 1) : (nI g + 1) - (nI g + 1) / 16 * 16 = nI ((g + 1) % 16) := by
  rw [nI_1]
  exact pk_rem (d := 16) (by omega) (by decide) (by decide)
theorem ls_xNext {post : Int32 → Prop} {i p g s : Nat} {p0 : Int32} (h : ls_HX sF sC sH sV fl bl tl tc pc np mo op D R pl q u) (hi : i < 256) (e : R i 0 = nI (ls_hd p g s)) (hp : p < 2) (hg : g < 16) (hs : s < 32) (k : post (nI ((g + 1) % 16))) (e0 : p0 = nI i := by rfl) : wpX_nextGeneration post u p0 := by
  subst e0
  refine ls_HXs (Q := fun u => wpX_nextGeneration post u (nI i)) h ?_
  intro ln fs hd hu vi vs dk pa lv ss sl h
  unfold wpX_nextGeneration
  refine ls_xGen h hi e hp hg hs ⟨by decide, ?_⟩
  rw [ls_16 (by omega)]
  exact k
theorem ls_xSize {post : Int32 → Prop} {i p g s : Nat} {p0 : Int32} (h : ls_HX sF sC sH sV fl bl tl tc pc np mo op D R pl q u) (hi : i < 256) (e : R i 0 = nI (ls_hd p g s)) (hp : p < 2) (hg : g < 16) (hs : s < 32) (k : post (nI s)) (e0 : p0 = nI i := by rfl) : wpX_inodeSize post u p0 := by
  subst e0
  refine ls_HXs (Q := fun u => wpX_inodeSize post u (nI i)) h ?_
  intro ln fs hd hu vi vs dk pa lv ss sl h
  unfold wpX_inodeSize
  refine ls_xRead h hi (w := 0) (by omega) ?_
  rw [e, ls_hdS hp hg hs]
  exact k
theorem ls_bfE {s : Nat} (hs : s < 2 ^ 30) : (nI s + 3) / 4 = nI (ls_bf s) := by
  rw [show (3 : Int32) = nI 3 from rfl, nI_add]
  exact pk_div (d := 4) (by omega) (by decide) (by decide)
theorem ls_xBf {post : Int32 → Prop} (u : SX) {s : Nat} (hs : s < 2 ^ 30) (k : post (nI (ls_bf s))) : wpX_blocksFor post u (nI s) := by
  obtain ⟨sF, sC, sH, sV, fl, bl, tl, ln, fs, hd, hu, vi, vs, tc, pc, np, mo, dk, pa, lv, ss, sl, op⟩ := u
  unfold wpX_blocksFor
  refine ⟨by decide, ?_⟩
  rw [ls_bfE hs]
  exact k
theorem ls_xWord {post : Int32 → Prop} {i x : Nat} {p0 p1 : Int32} (h : ls_HX sF sC sH sV fl bl tl tc pc np mo op D R pl q u) (hi : i < 256) (hx : x < 16) (k : post (R (ls_dat R i (x / 4)) (x % 4))) (e0 : p0 = nI i := by rfl) (e1 : p1 = nI x := by rfl) : wpX_inodeWord post u p0 p1 := by
  subst e0 e1
  refine ls_HXs (Q := fun u => wpX_inodeWord post u (nI i) (nI x)) h ?_
  intro ln fs hd hu vi vs dk pa lv ss sl h
  unfold wpX_inodeWord
  refine ls_xRead h hi (w := 1) (by omega) ?_
  refine ls_xGB _ (i := x / 4) (ls_sh2 (by omega)) (by omega) ?_
  exact ls_xRead h (ls_gb_lt _ _) (w := x % 4) (by omega) k rfl (ls_a3 (by omega))
theorem ls_xUsed4 {post : Int32 → Prop} {r : Nat} {sz : Nat → Nat} {ln fs hd hu vi vs : Int32} {dk pa lv ss sl : Nat → Int32} (h : ls_HX sF sC sH sV fl bl tl tc pc np mo op D R pl q (sF, sC, sH, sV, fl, bl, tl, ln, fs, hd, hu, vi, vs, tc, pc, np, mo, dk, pa, lv, ss, sl, op)) (hr : r < 256)
    (hs : ∀ f, f < 8 → sz f < 32 ∧ ∃ p g, p < 2 ∧ g < 16 ∧ R (ls_ino R r f) 0 = nI (ls_hd p g (sz f))) (k : post (nI (ls_sm (fun f => ls_bf (sz f)) 8))) :
    ∀ d f n, f + d = 8 → d < n → wX_usedOf_4 post (nI r) sF sC sH sV fl bl tl ln fs hd hu vi vs tc pc np mo dk pa lv ss sl op n (nI (ls_sm (fun f => ls_bf (sz f)) f)) (nI f) := by
  intro d
  induction d with
  | zero =>
    intro f n hf hn
    obtain ⟨n, rfl⟩ : ∃ n', n = n' + 1 := ⟨n - 1, by omega⟩
    obtain rfl : f = 8 := by omega
    exact br_t (nI_le (a := 8) (by omega) (by decide)) k
  | succ d ih =>
    intro f n hf hn
    obtain ⟨n, rfl⟩ : ∃ n', n = n' + 1 := ⟨n - 1, by omega⟩
    obtain ⟨s1, p, g, p1, g1, e⟩ := hs f (by omega)
    refine br_f (nI_ge (b := 8) (by omega) (by decide)) ?_
    refine ls_xIno h hr (f := f) (by omega) ?_
    refine ls_xSize h (ls_gb_lt _ _) e p1 g1 s1 ?_
    refine ls_xBf _ (by omega) ?_
    exact nm_r (nI_add _ _) (nm_r (nI_1 f) (ih (f + 1) n (by omega) (by omega)))
theorem ls_xUsed {post : Int32 → Prop} {r : Nat} {sz : Nat → Nat} (h : ls_HX sF sC sH sV fl bl tl tc pc np mo op D R pl q u) (hr : r < 256)
    (hs : ∀ f, f < 8 → sz f < 32 ∧ ∃ p g, p < 2 ∧ g < 16 ∧ R (ls_ino R r f) 0 = nI (ls_hd p g (sz f))) (k : post (nI (ls_sm (fun f => ls_bf (sz f)) 8))) : wpX_usedOf post u (nI r) := by
  refine ls_HXs (Q := fun u => wpX_usedOf post u (nI r)) h ?_
  intro ln fs hd hu vi vs dk pa lv ss sl h
  unfold wpX_usedOf
  exact ⟨9, ls_xUsed4 h hr hs k 8 0 9 (by omega) (by omega)⟩
theorem ls_xLarge {post : Int32 → Prop} {r so sn B : Nat} {sz : Nat → Nat} (h : ls_HX sF sC sH sV fl (nI B) tl tc pc np mo op D R pl q u) (hr : r < 256) (hB : B < 2 ^ 31)
    (hs : ∀ f, f < 8 → sz f < 32 ∧ ∃ p g, p < 2 ∧ g < 16 ∧ R (ls_ino R r f) 0 = nI (ls_hd p g (sz f))) (ho : so < 32) (hn : sn < 32) (hle : ls_bf so ≤ ls_sm (fun f => ls_bf (sz f)) 8) (hsm : ls_sm (fun f => ls_bf (sz f)) 8 < 1000)
    (k0 : ls_sm (fun f => ls_bf (sz f)) 8 - ls_bf so + ls_bf sn ≤ B → post 0) (k1 : B < ls_sm (fun f => ls_bf (sz f)) 8 - ls_bf so + ls_bf sn → post 1) : wpX_tooLarge post u (nI r) (nI so) (nI sn) := by
  refine ls_HXs (Q := fun u => wpX_tooLarge post u (nI r) (nI so) (nI sn)) h ?_
  intro ln fs hd hu vi vs dk pa lv ss sl h
  unfold wpX_tooLarge
  refine ls_xUsed h hr hs ?_
  refine ls_xBf _ (by omega) ?_
  refine ls_xBf _ (by omega) ?_
  refine nm_r (e' := nI (ls_sm (fun f => ls_bf (sz f)) 8 - ls_bf so + ls_bf sn)) (by rw [pk_sub hle, nI_add]) ?_
  have hb : ls_bf sn < 20 := by unfold ls_bf; omega
  exact pk_le _ B k0 k1 rfl rfl (by omega) hB
theorem ls_xMakeRoom {post : SX → Prop} (h : ls_HX sF sC sH sV fl bl tl tc pc np mo op D R pl 0 u) (hc : ls_cn pl 256 ≤ 138) (k : ∀ u', ls_HX sF sC sH sV fl bl tl tc pc np mo op D R pl 3 u' → post u') : wpX_makeRoom post u := by
  refine ls_HXe (Q := fun u => wpX_makeRoom post u) h ?_
  intro ln fs hd hu vi vs dk P lv S V g _
  unfold wpX_makeRoom
  refine ⟨33, ls_xRoom2 (D := D) (R := R) (pl := pl) hc (fun fs hd hu vi vs dk P S V g h2 => ?_) 32 0 33 fs hd hu vi vs dk P S V (by omega) (by omega) g (Or.inl rfl) (by omega)⟩
  have := g.1.1.2.2.2.1
  exact k _ ⟨_, _, _, _, _, _, _, _, _, _, _, rfl, g, Or.inr ⟨by omega, by omega⟩⟩
theorem ls_xAppend {post : Int32 → SX → Prop} {w0 w1 w2 w3 : Int32} (h : ls_HX sF sC sH sV fl bl tl tc pc np mo op D R pl (q+1) u)
    (k : ∀ g u', 1 ≤ g → g < 256 → ¬ pl g → ls_HX sF sC sH sV fl bl tl tc pc np mo op D (ls_s4 R g w0 w1 w2 w3) (ls_ad pl g) q u' → post (nI g) u') : wpX_append post u w0 w1 w2 w3 := by
  refine ls_HXe (Q := fun u => wpX_append post u w0 w1 w2 w3) h ?_
  intro ln fs hd hu vi vs dk P lv S V gg hb
  obtain ⟨g1, g2, g3, g4, g5⟩ := gg
  obtain ⟨b1, b2⟩ : hu + (q + 1) ≤ 7 * fs ∧ ls_cn pl 256 + (q + 1) ≤ 200 := by
    rcases hb with z | z
    · omega
    · exact z
  unfold wpX_append
  refine ls_xTakeNumber g1 (by rw [ls_cn_pl g4]; omega) (fun g k1 k2 k3 => ?_)
  refine br_f (nI_ne0 (by omega) (by omega)) ?_
  refine ls_xTakeSlot (ls_LA_ln g1 k2) (by omega) (fun fs' hd' hu' dk' S' V' o h7 oe oR ol oV => ?_)
  have o1 := o.1
  refine br_f (nI_ne0 (by omega) (by omega)) (nm_r (ls_4 _) ?_)
  refine ⟨vp_in_nI (by omega) (by decide), nm_r (ls_dc (by omega) rfl) ?_⟩
  have e1 : nI (4 * (8 * hd' + hu' + 1)) + 1 = nI (4 * (8 * hd' + hu' + 1) + 1) := nI_1 _
  have e2 : nI (4 * (8 * hd' + hu' + 1)) + 2 = nI (4 * (8 * hd' + hu' + 1) + 2) := nI_add _ 2
  have e3 : nI (4 * (8 * hd' + hu' + 1)) + 3 = nI (4 * (8 * hd' + hu' + 1) + 3) := nI_add _ 3
  rw [e1, e2, e3]
  refine ⟨vp_in_nI (by omega) (by decide), nm_r (ls_dc (by omega) rfl) ⟨vp_in_nI (by omega) (by decide), nm_r (ls_dc (by omega) rfl) ⟨vp_in_nI (by omega) (by decide), nm_r (ls_dc (by omega) rfl) ⟨vp_in_nI (by omega) (by decide), nm_r (ls_uc (x := 8 * hd' + hu' + 1) (by omega) rfl) ?_⟩⟩⟩⟩
  have p := ls_LAput o h7 k1 (by omega) (dk' := upd (upd (upd (upd (upd dk' (32 * hd' + hu' / 4) (ls_sb (dk' (32 * hd' + hu' / 4)) (hu' % 4) g)) (4 * (8 * hd' + hu' + 1)) w0) (4 * (8 * hd' + hu' + 1) + 1) w1) (4 * (8 * hd' + hu' + 1) + 2) w2) (4 * (8 * hd' + hu' + 1) + 3) w3)
    (by rw [pk_un (by omega), pk_un (by omega), pk_un (by omega), pk_un (by omega), pk_us])
    (fun j j1 j2 => by rw [pk_un (by omega), pk_un (by omega), pk_un (by omega), pk_un (by omega), pk_un j1]) (ls_Vput o h7 (by omega) k3)
  obtain ⟨p1, p2, p3, p4⟩ := p
  have hng : ¬ pl g := by rw [← g4]; exact fun z => z.2 k3
  have hpl : ls_pl (ls_u P g (8 * hd' + hu' + 1)) = ls_ad pl g := by
    rw [← g4]
    funext n
    unfold ls_pl ls_ad
    by_cases en : n = g
    · subst en; rw [ls_us]; exact propext ⟨fun _ => Or.inr rfl, fun _ => ⟨by omega, by omega⟩⟩
    · rw [ls_un en]; exact propext ⟨fun z => Or.inl z, fun z => by rcases z with z | z; exact z; exact absurd z en⟩
  have hcn : ls_cn (ls_ad pl g) 256 = ls_cn pl 256 + 1 := ls_cn_add (a := g) (by omega) hng (fun n _ => Iff.rfl)
  refine k g _ k1 (by omega) hng ⟨_, _, _, _, _, _, _, _, _, _, _, rfl, ⟨p1, ⟨fun _ => by omega, fun hv => ?_⟩, ?_, hpl, fun j hj => (p4 j hj).trans ((ol j hj).trans (g5 j hj))⟩, ?_⟩
  · have hne : vi ≠ hd' := by
      intro z
      rcases o.2.2.1 with d | d
      · omega
      · rw [z] at d; omega
    rw [ls_un hne, oV hv]
    have := g2.2 hv
    omega
  · funext n w
    unfold ls_s4
    by_cases en : n = g
    · subst en
      rw [if_pos rfl]
      by_cases w4 : w < 4
      · rw [p3 w w4]
        rcases (by omega : w = 0 ∨ w = 1 ∨ w = 2 ∨ w = 3) with z | z | z | z
        · subst z; rw [if_pos rfl, pk_un (by omega), pk_un (by omega), pk_un (by omega)]; exact pk_us
        · subst z; rw [if_neg (by omega), if_pos rfl, pk_un (by omega), pk_un (by omega), pk_us]
        · subst z; rw [if_neg (by omega), if_neg (by omega), if_pos rfl, pk_un (by omega), pk_us]
        · subst z; rw [if_neg (by omega), if_neg (by omega), if_neg (by omega), if_pos rfl, pk_us]
      · rw [if_neg (by omega), if_neg (by omega), if_neg (by omega), if_neg (by omega)]
        exact if_neg (by omega)
    · rw [if_neg en, ← g3, ← oR]
      exact p2 n w en
  · rw [hcn]
    by_cases z : q = 0
    · exact Or.inl z
    · exact Or.inr ⟨by omega, by omega⟩
theorem ls_xAppI {post : Int32 → SX → Prop} {x pt : Int32} {p g s : Nat} {p1 p2 p3 : Int32} (h : ls_HX sF sC sH sV fl bl tl tc pc np mo op D R pl (q+1) u) (hp : p < 2) (hg : g < 16) (hs : s < 32)
    (k : ∀ i u', 1 ≤ i → i < 256 → ¬ pl i → ls_HX sF sC sH sV fl bl tl tc pc np mo op D (ls_s4 R i (nI (ls_hd p g s)) pt x 0) (ls_ad pl i) q u' → post (nI i) u') (e1 : p1 = nI p := by rfl) (e2 : p2 = nI g := by rfl) (e3 : p3 = nI s := by rfl) : wpX_appendInode post u x p1 p2 p3 pt := by
  subst e1 e2 e3
  refine ls_HXs (Q := fun u => wpX_appendInode post u x (nI p) (nI g) (nI s) pt) h ?_
  intro ln fs hd hu vi vs dk pa lv ss sl h
  unfold wpX_appendInode
  refine nm_r (ls_hdE p hp g hg s hs) ?_
  refine ls_xAppend h (fun i u' a b c d => ?_)
  have kk := k i u' a b c d
  obtain ⟨sF, sC, sH, sV, fl, bl, tl, ln, fs, hd, hu, vi, vs, tc, pc, np, mo, dk, pa, lv, ss, sl, op⟩ := u'
  exact kk
theorem ls_xMoved {post : Int32 → SX → Prop} {x : Int32} {o s p1 g1 s1 p2 g2 s2 : Nat} (h : ls_HX sF sC sH sV fl bl tl tc pc np mo op D R pl (q+1) u) (ho : o < 256) (hs : s < 256)
    (e1 : R o 0 = nI (ls_hd p1 g1 s1)) (hp1 : p1 < 2) (hg1 : g1 < 16) (hs1 : s1 < 32) (e2 : R s 0 = nI (ls_hd p2 g2 s2)) (hp2 : p2 < 2) (hg2 : g2 < 16) (hs2 : s2 < 32)
    (k : ∀ i u', 1 ≤ i → i < 256 → ¬ pl i → ls_HX sF sC sH sV fl bl tl tc pc np mo op D (ls_s4 R i (nI (ls_hd 1 ((g1 + 1) % 16) s2)) (R s 1) x 0) (ls_ad pl i) q u' → post (nI i) u') : wpX_appendMoved post u x (nI o) (nI s) := by
  refine ls_HXs (Q := fun u => wpX_appendMoved post u x (nI o) (nI s)) h ?_
  intro ln fs hd hu vi vs dk pa lv ss sl h
  unfold wpX_appendMoved
  refine ls_xNext h ho e1 hp1 hg1 hs1 ?_
  refine ls_xSize h hs e2 hp2 hg2 hs2 ?_
  refine ls_xRead h hs (w := 1) (by omega) ?_
  refine ls_xAppI (p := 1) (g := (g1 + 1) % 16) (s := s2) h (by omega) (by omega) hs2 (fun i u' a b c d => ?_)
  have kk := k i u' a b c d
  obtain ⟨sF, sC, sH, sV, fl, bl, tl, ln, fs, hd, hu, vi, vs, tc, pc, np, mo, dk, pa, lv, ss, sl, op⟩ := u'
  exact kk
theorem ls_xCleanM {post : Int32 → SX → Prop} {a : Int32} {ln fs hd hu vi vs : Int32} {dk pa lv ss sl : Nat → Int32} (h : ls_HX sF sC sH sV fl bl tl tc pc np mo op D R pl 0 (sF, sC, sH, sV, fl, bl, tl, ln, fs, hd, hu, vi, vs, tc, pc, np, mo, dk, pa, lv, ss, sl, op)) (k : ∀ u', ls_HX sF sC sH sV fl bl tl tc pc np mo op D R pl 0 u' → post 0 u') : ∃ n, wX_clean_18 post a n 0 sF sC sH sV fl bl tl ln fs hd hu vi vs tc pc np mo dk pa lv ss sl op := by
  obtain ⟨ln', fs', hd', hu', vi', vs', dk', P', lv', S', V', e, g, b⟩ := h
  injection e with _ e; injection e with _ e; injection e with _ e; injection e with _ e; injection e with _ e; injection e with _ e; injection e with _ e
  injection e with e1 e; injection e with e2 e; injection e with e3 e; injection e with e4 e; injection e with e5 e; injection e with e6 e
  injection e with _ e; injection e with _ e; injection e with _ e; injection e with _ e
  injection e with e7 e; injection e with e8 e; injection e with e9 e; injection e with e10 e; injection e with e11 e
  subst e1 e2 e3 e4 e5 e6 e7 e8 e9 e10 e11
  refine ⟨65, ls_xClean18 (D := D) (R := R) (pl := pl) (fun fs hd hu vi vs dk P S V g => ?_) 64 0 65 fs' hd' hu' vi' vs' dk P' S' V' (by omega) (by omega) g⟩
  exact k _ ⟨_, _, _, _, _, _, _, _, _, _, _, rfl, g, Or.inl rfl⟩
end
end
section
/-! ===== the trees ===== -/
abbrev ls_FR : Type := Nat × Nat × Nat × (Nat → Int32)
def ls_WF (x : ls_FR) : Prop := x.1 < 2 ∧ x.2.1 < 16 ∧ x.2.2.1 ≤ 16 ∧ (x.1 = 0 → x.2.2.1 = 0) ∧ (∀ y, x.2.2.1 ≤ y → x.2.2.2 y = 0)
def ls_DP (R : Nat → Nat → Int32) (pl : Nat → Prop) (K : Nat → Nat) (pt : Int32) (s : Nat) (w : Nat → Int32) : Prop :=
  (∀ b, b < 4 → (ls_gb pt b = 0 ∨ (pl (ls_gb pt b) ∧ K (ls_gb pt b) = 3)) ∧ (s ≤ 4 * b → ls_gb pt b = 0)) ∧ (∀ x, x < 16 → R (ls_gb pt (x / 4)) (x % 4) = w x)
def ls_NI (R : Nat → Nat → Int32) (pl : Nat → Prop) (K : Nat → Nat) (i : Nat) (x : ls_FR) : Prop :=
  (i = 0 ∨ (pl i ∧ K i = 2)) ∧ R i 0 = nI (ls_hd x.1 x.2.1 x.2.2.1) ∧ ls_DP R pl K (R i 1) x.2.2.1 x.2.2.2
def ls_HC (R : Nat → Nat → Int32) (pl : Nat → Prop) (K : Nat → Nat) : Prop :=
  (∀ w, w < 4 → R 0 w = 0) ∧ ¬ pl 0 ∧ (∀ n, pl n → K n = 1 → ∀ f, f < 8 → ls_ino R n f = 0 ∨ (pl (ls_ino R n f) ∧ K (ls_ino R n f) = 2)) ∧
  (∀ n, pl n → K n = 2 → ∀ b, b < 4 → ls_dat R n b = 0 ∨ (pl (ls_dat R n b) ∧ K (ls_dat R n b) = 3))
def ls_RO (pl : Nat → Prop) (K : Nat → Nat) (r : Nat) : Prop := r = 0 ∨ (pl r ∧ K r = 1)
def ls_VX (R : Nat → Nat → Int32) (pl : Nat → Prop) (K : Nat → Nat) (r : Nat) (C : Nat → ls_FR) : Prop := ∀ f, f < 8 → ls_NI R pl K (ls_ino R r f) (C f)
def ls_iT (R : Nat → Nat → Int32) (r n : Nat) : Prop := n = r ∨ (∃ f, f < 8 ∧ n = ls_ino R r f) ∨ (∃ f b, f < 8 ∧ b < 4 ∧ n = ls_dat R (ls_ino R r f) b)
def ls_TR (R : Nat → Nat → Int32) (pl : Nat → Prop) (K : Nat → Nat) (rt : Nat → Nat) (N : Nat) (A : Nat → Nat → ls_FR) (M : Nat → Nat × Nat) : Prop :=
  ls_HC R pl K ∧ (∀ k, k ≤ N + 1 → ls_RO pl K (rt k) ∧ ls_VX R pl K (rt k) (A k)) ∧
  (∀ k, 1 ≤ k → k ≤ N → ∃ a b c, ∀ n, ls_iT R (rt (k + 1)) n → n = 0 ∨ ls_iT R (rt k) n ∨ n = a ∨ n = b ∨ n = c) ∧
  (∀ i, i < N → ∀ f, f < 8 → ((((R (rt (i + 2)) 2) >>> (nI f &&& 31)) &&& 1) = 0 ↔ (f ≠ (M i).1 ∧ f ≠ (M i).2)))
def ls_CV (R : Nat → Nat → Int32) (pl : Nat → Prop) (rt : Nat → Nat) (N : Nat) : Prop := ∀ n, pl n → ∃ k, k ≤ N + 1 ∧ ls_iT R (rt k) n
theorem ls_dat0 {R : Nat → Nat → Int32} (h : ∀ w, w < 4 → R 0 w = 0) (b : Nat) : ls_dat R 0 b = 0 := by
  unfold ls_dat
  rw [h 1 (by omega)]
  exact ls_gb0 b
theorem ls_ino0 {R : Nat → Nat → Int32} (h : ∀ w, w < 4 → R 0 w = 0) {f : Nat} (hf : f < 8) : ls_ino R 0 f = 0 := by
  unfold ls_ino
  rw [h (f / 4) (by omega)]
  exact ls_gb0 _
/-! ===== two stores that agree on a set closed under pointers ===== -/
section
variable {R R' : Nat → Nat → Int32} {Z pl' : Nat → Prop} {K K' : Nat → Nat}
theorem ls_agI (ag : ∀ n w, w < 4 → (n = 0 ∨ Z n) → R' n w = R n w) {r f : Nat} (hr : r = 0 ∨ Z r) (hf : f < 8) : ls_ino R' r f = ls_ino R r f := by
  unfold ls_ino
  rw [ag r (f / 4) (by omega) hr]
theorem ls_agD (ag : ∀ n w, w < 4 → (n = 0 ∨ Z n) → R' n w = R n w) {i b : Nat} (hr : i = 0 ∨ Z i) : ls_dat R' i b = ls_dat R i b := by
  unfold ls_dat
  rw [ag i 1 (by omega) hr]
theorem ls_agP (ag : ∀ n w, w < 4 → (n = 0 ∨ Z n) → R' n w = R n w) (sub : ∀ n, Z n → pl' n ∧ K' n = K n) {pt : Int32} {s : Nat} {w : Nat → Int32} (h : ls_DP R Z K pt s w) : ls_DP R' pl' K' pt s w := by
  refine ⟨fun b hb => ⟨?_, (h.1 b hb).2⟩, fun x hx => ?_⟩
  · rcases (h.1 b hb).1 with z | z
    · exact Or.inl z
    · have := sub _ z.1
      exact Or.inr ⟨this.1, this.2.trans z.2⟩
  · rw [ag _ _ (by omega) ?_]
    · exact h.2 x hx
    · rcases (h.1 (x / 4) (by omega)).1 with z | z
      · exact Or.inl z
      · exact Or.inr z.1
theorem ls_agN (ag : ∀ n w, w < 4 → (n = 0 ∨ Z n) → R' n w = R n w) (sub : ∀ n, Z n → pl' n ∧ K' n = K n) {i : Nat} {x : ls_FR} (h : ls_NI R Z K i x) : ls_NI R' pl' K' i x := by
  have hi : i = 0 ∨ Z i := by
    rcases h.1 with z | z
    · exact Or.inl z
    · exact Or.inr z.1
  refine ⟨?_, ?_, ?_⟩
  · rcases h.1 with z | z
    · exact Or.inl z
    · have := sub _ z.1
      exact Or.inr ⟨this.1, this.2.trans z.2⟩
  · rw [ag i 0 (by omega) hi]; exact h.2.1
  · rw [ag i 1 (by omega) hi]; exact ls_agP ag sub h.2.2
theorem ls_agO (sub : ∀ n, Z n → pl' n ∧ K' n = K n) {r : Nat} (h : ls_RO Z K r) : ls_RO pl' K' r := by
  rcases h with z | z
  · exact Or.inl z
  · have := sub _ z.1
    exact Or.inr ⟨this.1, this.2.trans z.2⟩
theorem ls_agV (ag : ∀ n w, w < 4 → (n = 0 ∨ Z n) → R' n w = R n w) (sub : ∀ n, Z n → pl' n ∧ K' n = K n) {r : Nat} {C : Nat → ls_FR} (hr : ls_RO Z K r) (h : ls_VX R Z K r C) : ls_VX R' pl' K' r C := by
  intro f hf
  rw [ls_agI ag (by rcases hr with z | z; exact Or.inl z; exact Or.inr z.1) hf]
  exact ls_agN ag sub (h f hf)
theorem ls_HCi (hc : ls_HC R Z K) {r f : Nat} (hr : ls_RO Z K r) (hf : f < 8) : ls_ino R r f = 0 ∨ (Z (ls_ino R r f) ∧ K (ls_ino R r f) = 2) := by
  rcases hr with z | z
  · subst z; exact Or.inl (ls_ino0 hc.1 hf)
  · exact hc.2.2.1 r z.1 z.2 f hf
theorem ls_HCd (hc : ls_HC R Z K) {r f b : Nat} (hr : ls_RO Z K r) (hf : f < 8) (hb : b < 4) : ls_dat R (ls_ino R r f) b = 0 ∨ (Z (ls_dat R (ls_ino R r f) b) ∧ K (ls_dat R (ls_ino R r f) b) = 3) := by
  rcases ls_HCi hc hr hf with z | z
  · rw [z]; exact Or.inl (ls_dat0 hc.1 b)
  · exact hc.2.2.2 _ z.1 z.2 b hb
theorem ls_agT (ag : ∀ n w, w < 4 → (n = 0 ∨ Z n) → R' n w = R n w) (hc : ls_HC R Z K) {r n : Nat} (hr : ls_RO Z K r) : ls_iT R' r n ↔ ls_iT R r n := by
  have hr' : r = 0 ∨ Z r := by rcases hr with z | z; exact Or.inl z; exact Or.inr z.1
  have hi : ∀ f, f < 8 → ls_ino R' r f = ls_ino R r f := fun f hf => ls_agI ag hr' hf
  have hd : ∀ f b, f < 8 → ls_dat R' (ls_ino R' r f) b = ls_dat R (ls_ino R r f) b := by
    intro f b hf
    rw [hi f hf]
    exact ls_agD ag (by rcases ls_HCi hc hr hf with z | z; exact Or.inl z; exact Or.inr z.1)
  unfold ls_iT
  constructor
  · rintro (z | ⟨f, hf, z⟩ | ⟨f, b, hf, hb, z⟩)
    · exact Or.inl z
    · exact Or.inr (Or.inl ⟨f, hf, by rw [← hi f hf]; exact z⟩)
    · exact Or.inr (Or.inr ⟨f, b, hf, hb, by rw [← hd f b hf]; exact z⟩)
  · rintro (z | ⟨f, hf, z⟩ | ⟨f, b, hf, hb, z⟩)
    · exact Or.inl z
    · exact Or.inr (Or.inl ⟨f, hf, by rw [hi f hf]; exact z⟩)
    · exact Or.inr (Or.inr ⟨f, b, hf, hb, by rw [hd f b hf]; exact z⟩)
theorem ls_agR (ag : ∀ n w, w < 4 → (n = 0 ∨ Z n) → R' n w = R n w) (sub : ∀ n, Z n → pl' n ∧ K' n = K n) {rt : Nat → Nat} {N : Nat} {A : Nat → Nat → ls_FR} {M : Nat → Nat × Nat} (h : ls_TR R Z K rt N A M) (hc' : ls_HC R' pl' K') : ls_TR R' pl' K' rt N A M := by
  obtain ⟨hc, hv, hs, hm⟩ := h
  refine ⟨hc', fun k hk => ⟨ls_agO sub (hv k hk).1, ls_agV ag sub (hv k hk).1 (hv k hk).2⟩, fun k k1 k2 => ?_, fun i hi f hf => ?_⟩
  · obtain ⟨a, b, c, h3⟩ := hs k k1 k2
    refine ⟨a, b, c, fun n hn => ?_⟩
    rw [ls_agT ag hc (hv (k + 1) (by omega)).1] at hn
    rw [ls_agT ag hc (hv k (by omega)).1]
    exact h3 n hn
  · rw [ag _ 2 (by omega) (by rcases (hv (i + 2) (by omega)).1 with z | z; exact Or.inl z; exact Or.inr z.1)]
    exact hm i hi f hf
end
/-! ===== one fresh block ===== -/
section
variable {R : Nat → Nat → Int32} {pl : Nat → Prop} {K : Nat → Nat} {g k : Nat} {w0 w1 w2 w3 : Int32}
theorem ls_s4n {n : Nat} (h : n ≠ g) (w : Nat) : ls_s4 R g w0 w1 w2 w3 n w = R n w := if_neg h
theorem ls_s40 : ls_s4 R g w0 w1 w2 w3 g 0 = w0 := if_pos rfl
theorem ls_s41 : ls_s4 R g w0 w1 w2 w3 g 1 = w1 := if_pos rfl
theorem ls_s42 : ls_s4 R g w0 w1 w2 w3 g 2 = w2 := if_pos rfl
theorem ls_s43 : ls_s4 R g w0 w1 w2 w3 g 3 = w3 := if_pos rfl
theorem ls_adA (g0 : g ≠ 0) (hg : ¬ pl g) : ∀ n w, w < 4 → (n = 0 ∨ pl n) → ls_s4 R g w0 w1 w2 w3 n w = R n w := by
  intro n w _ h
  refine ls_s4n (fun z => ?_) w
  subst z
  rcases h with z | z
  · exact g0 z
  · exact hg z
theorem ls_adS (hg : ¬ pl g) : ∀ n, pl n → ls_ad pl g n ∧ ls_u K g k n = K n := by
  intro n hn
  exact ⟨Or.inl hn, ls_un (fun z => hg (z ▸ hn))⟩
theorem ls_adH (hc : ls_HC R pl K) (g0 : g ≠ 0) (hg : ¬ pl g)
    (h1 : k = 1 → ∀ f, f < 8 → ls_ino (ls_s4 R g w0 w1 w2 w3) g f = 0 ∨ (pl (ls_ino (ls_s4 R g w0 w1 w2 w3) g f) ∧ K (ls_ino (ls_s4 R g w0 w1 w2 w3) g f) = 2))
    (h2 : k = 2 → ∀ b, b < 4 → ls_gb w1 b = 0 ∨ (pl (ls_gb w1 b) ∧ K (ls_gb w1 b) = 3)) :
    ls_HC (ls_s4 R g w0 w1 w2 w3) (ls_ad pl g) (ls_u K g k) := by
  have lift : ∀ {n j : Nat}, (n = 0 ∨ (pl n ∧ K n = j)) → (n = 0 ∨ (ls_ad pl g n ∧ ls_u K g k n = j)) := by
    intro n j h
    rcases h with z | z
    · exact Or.inl z
    · have := ls_adS (K := K) (k := k) hg n z.1
      exact Or.inr ⟨this.1, this.2.trans z.2⟩
  refine ⟨fun w hw => ?_, ?_, ?_, ?_⟩
  · rw [ls_s4n (by omega)]; exact hc.1 w hw
  · rintro (z | z)
    · exact hc.2.1 z
    · exact g0 z.symm
  · intro n hn hk f hf
    by_cases e : n = g
    · subst e
      rw [ls_us] at hk
      exact lift (h1 hk f hf)
    · have hn' : pl n := by rcases hn with z | z; exact z; exact absurd z e
      rw [ls_un e] at hk
      rw [ls_agI (ls_adA g0 hg) (Or.inr hn') hf]
      exact lift (hc.2.2.1 n hn' hk f hf)
  · intro n hn hk b hb
    by_cases e : n = g
    · subst e
      rw [ls_us] at hk
      unfold ls_dat
      rw [ls_s41]
      exact lift (h2 hk b hb)
    · have hn' : pl n := by rcases hn with z | z; exact z; exact absurd z e
      rw [ls_un e] at hk
      rw [ls_agD (ls_adA g0 hg) (Or.inr hn')]
      exact lift (hc.2.2.2 n hn' hk b hb)
end
/-! ===== a new map ===== -/
def ls_we (x : Int32) (h f i : Nat) : Int32 := if f / 4 = h then ls_sb x (f % 4) i else x
theorem ls_gbw {x : Int32} {f g i : Nat} (hi : i < 256) : ls_gb (ls_we x (f / 4) g i) (f % 4) = if f = g then i else ls_gb x (f % 4) := by
  unfold ls_we
  by_cases e : g / 4 = f / 4
  · rw [if_pos e, ls_gbs _ (by omega) (by omega) hi]
    by_cases e2 : f = g
    · rw [if_pos e2, if_pos (by omega)]
    · rw [if_neg e2, if_neg (by omega)]
  · rw [if_neg e, if_neg (by intro z; rw [z] at e; exact e rfl)]
def ls_set (C : Nat → ls_FR) (a : Nat) (x : ls_FR) : Nat → ls_FR := fun f => if f = a then x else C f
def ls_add (A : Nat → Nat → ls_FR) (N : Nat) (C : Nat → ls_FR) : Nat → Nat → ls_FR := fun k => if k = N + 2 then C else A k
def ls_mad (M : Nat → Nat × Nat) (N a b : Nat) : Nat → Nat × Nat := fun i => if i = N then (a, b) else M i
theorem ls_commit {R : Nat → Nat → Int32} {pl : Nat → Prop} {K rt : Nat → Nat} {N : Nat} {A : Nat → Nat → ls_FR} {M : Nat → Nat × Nat} {m a b iA iB e1 e2 x y : Nat} {xA xB : ls_FR}
    (h : ls_TR R pl K rt N A M) (cv : ∀ n, pl n → (∃ k, k ≤ N + 1 ∧ ls_iT R (rt k) n) ∨ n = e1 ∨ n = e2)
    (m0 : m ≠ 0) (hm : ¬ pl m) (ha : a < 8) (hb : b < 8) (hiA : iA < 256) (hiB : iB < 256) (nA : ls_NI R pl K iA xA) (nB : ls_NI R pl K iB xB)
    (qA : iA = e1 ∨ iA = e2) (qB : iB = e1 ∨ iB = e2)
    (sA : ∀ j, j < 4 → ls_dat R iA j = 0 ∨ ls_iT R (rt (N + 1)) (ls_dat R iA j) ∨ ls_dat R iA j = e1 ∨ ls_dat R iA j = e2)
    (sB : ∀ j, j < 4 → ls_dat R iB j = 0 ∨ ls_iT R (rt (N + 1)) (ls_dat R iB j) ∨ ls_dat R iB j = e1 ∨ ls_dat R iB j = e2)
    (c1 : (a ≠ b ∧ e1 = iA) ∨ e1 = iB ∨ ∃ j, j < 4 ∧ e1 = ls_dat R iB j) (c2 : (a ≠ b ∧ e2 = iA) ∨ e2 = iB ∨ ∃ j, j < 4 ∧ e2 = ls_dat R iB j)
    (hxy : (x = a ∧ y = b) ∨ (x = b ∧ y = a)) :
    ls_TR (ls_s4 R m (ls_we (ls_we (R (rt (N + 1)) 0) 0 a iA) 0 b iB) (ls_we (ls_we (R (rt (N + 1)) 1) 1 a iA) 1 b iB) (ls_mk a b) 0) (ls_ad pl m) (ls_u K m 1) (ls_u rt (N + 2) m) (N + 1)
      (ls_add A N (ls_set (ls_set (A (N + 1)) a xA) b xB)) (ls_mad M N x y) ∧
    ls_CV (ls_s4 R m (ls_we (ls_we (R (rt (N + 1)) 0) 0 a iA) 0 b iB) (ls_we (ls_we (R (rt (N + 1)) 1) 1 a iA) 1 b iB) (ls_mk a b) 0) (ls_ad pl m) (ls_u rt (N + 2) m) (N + 1) := by
  generalize hR' : ls_s4 R m (ls_we (ls_we (R (rt (N + 1)) 0) 0 a iA) 0 b iB) (ls_we (ls_we (R (rt (N + 1)) 1) 1 a iA) 1 b iB) (ls_mk a b) 0 = R'
  have ag : ∀ n w, w < 4 → (n = 0 ∨ pl n) → R' n w = R n w := by rw [← hR']; exact ls_adA m0 hm
  have sub := ls_adS (K := K) (k := 1) hm
  have hc := h.1
  have hr := (h.2.1 (N + 1) (by omega)).1
  have hvx := (h.2.1 (N + 1) (by omega)).2
  have hm2 : R' m 2 = ls_mk a b := by rw [← hR']; exact ls_s42
  have hino : ∀ f, f < 8 → ls_ino R' m f = if f = b then iB else if f = a then iA else ls_ino R (rt (N + 1)) f := by
    intro f hf
    have e : R' m (f / 4) = ls_we (ls_we (R (rt (N + 1)) (f / 4)) (f / 4) a iA) (f / 4) b iB := by
      rw [← hR']
      rcases (by omega : f / 4 = 0 ∨ f / 4 = 1) with z | z
      · rw [z]; exact ls_s40
      · rw [z]; exact ls_s41
    unfold ls_ino
    rw [e, ls_gbw hiB, ls_gbw hiA]
  have hnA : ls_NI R' (ls_ad pl m) (ls_u K m 1) iA xA := ls_agN ag sub nA
  have hnB : ls_NI R' (ls_ad pl m) (ls_u K m 1) iB xB := ls_agN ag sub nB
  have zp : ∀ {i : Nat} {j : Nat}, (i = 0 ∨ (pl i ∧ K i = j)) → (i = 0 ∨ pl i) := by
    intro i j z; rcases z with z | z; exact Or.inl z; exact Or.inr z.1
  have hdA : ∀ j, ls_dat R' iA j = ls_dat R iA j := fun j => ls_agD ag (zp nA.1)
  have hdB : ∀ j, ls_dat R' iB j = ls_dat R iB j := fun j => ls_agD ag (zp nB.1)
  have hdO : ∀ f j, f < 8 → ls_dat R' (ls_ino R (rt (N + 1)) f) j = ls_dat R (ls_ino R (rt (N + 1)) f) j := fun f j hf => ls_agD ag (zp (ls_HCi hc hr hf))
  have hHC : ls_HC R' (ls_ad pl m) (ls_u K m 1) := by
    subst hR'
    refine ls_adH hc m0 hm (fun _ f hf => ?_) (fun z => by omega)
    rw [hino f hf]
    by_cases z1 : f = b
    · rw [if_pos z1]; exact nB.1
    · rw [if_neg z1]
      by_cases z2 : f = a
      · rw [if_pos z2]; exact nA.1
      · rw [if_neg z2]; exact ls_HCi hc hr hf
  have base := ls_agR ag sub h hHC
  have rto : ∀ k, k ≤ N + 1 → ls_u rt (N + 2) m k = rt k := fun k hk => ls_un (by omega)
  have rtn : ls_u rt (N + 2) m (N + 2) = m := ls_us
  refine ⟨⟨hHC, fun k hk => ?_, fun k k1 k2 => ?_, fun i hi f hf => ?_⟩, fun n hn => ?_⟩
  · by_cases e : k = N + 2
    · subst e
      rw [rtn]
      refine ⟨Or.inr ⟨Or.inr rfl, ls_us⟩, fun f hf => ?_⟩
      rw [hino f hf]
      show ls_NI _ _ _ _ ((if N + 2 = N + 2 then ls_set (ls_set (A (N + 1)) a xA) b xB else A (N + 2)) f)
      rw [if_pos rfl]
      unfold ls_set
      by_cases z1 : f = b
      · rw [if_pos z1, if_pos z1]; exact hnB
      · rw [if_neg z1, if_neg z1]
        by_cases z2 : f = a
        · rw [if_pos z2, if_pos z2]; exact hnA
        · rw [if_neg z2, if_neg z2]; exact ls_agN ag sub (hvx f hf)
    · rw [rto k (by omega)]
      have : ls_add A N (ls_set (ls_set (A (N + 1)) a xA) b xB) k = A k := if_neg e
      rw [this]
      exact base.2.1 k (by omega)
  · by_cases e : k = N + 1
    · subst e
      rw [rtn, rto (N + 1) (by omega)]
      refine ⟨m, e1, e2, fun n hn => ?_⟩
      have old : ls_iT R (rt (N + 1)) n → ls_iT R' (rt (N + 1)) n := (ls_agT ag hc hr).mpr
      rcases hn with z | ⟨f, hf, z⟩ | ⟨f, j, hf, hj, z⟩
      · exact Or.inr (Or.inr (Or.inl z))
      · rw [hino f hf] at z
        by_cases z1 : f = b
        · rw [if_pos z1] at z; exact Or.inr (Or.inr (Or.inr (by rw [z]; exact qB)))
        · rw [if_neg z1] at z
          by_cases z2 : f = a
          · rw [if_pos z2] at z; exact Or.inr (Or.inr (Or.inr (by rw [z]; exact qA)))
          · rw [if_neg z2] at z; exact Or.inr (Or.inl (old (Or.inr (Or.inl ⟨f, hf, z⟩))))
      · rw [hino f hf] at z
        by_cases z1 : f = b
        · rw [if_pos z1, hdB] at z
          rcases sB j hj with s | s | s
          · exact Or.inl (z.trans s)
          · exact Or.inr (Or.inl (old (by rw [z]; exact s)))
          · exact Or.inr (Or.inr (Or.inr (by rw [z]; exact s)))
        · rw [if_neg z1] at z
          by_cases z2 : f = a
          · rw [if_pos z2, hdA] at z
            rcases sA j hj with s | s | s
            · exact Or.inl (z.trans s)
            · exact Or.inr (Or.inl (old (by rw [z]; exact s)))
            · exact Or.inr (Or.inr (Or.inr (by rw [z]; exact s)))
          · rw [if_neg z2, hdO f j hf] at z
            exact Or.inr (Or.inl (old (Or.inr (Or.inr ⟨f, j, hf, hj, z⟩))))
    · rw [rto k (by omega), rto (k + 1) (by omega)]
      exact base.2.2.1 k k1 (by omega)
  · by_cases e : i = N
    · subst e
      rw [rtn, hm2]
      have : ls_mad M i x y i = (x, y) := if_pos rfl
      rw [this, ls_mkE a ha b hb f hf]
      show _ ↔ (f ≠ x ∧ f ≠ y)
      rcases hxy with ⟨rfl, rfl⟩ | ⟨rfl, rfl⟩
      · exact Iff.rfl
      · exact ⟨fun z => ⟨z.2, z.1⟩, fun z => ⟨z.2, z.1⟩⟩
    · rw [rto (i + 2) (by omega)]
      have : ls_mad M N x y i = M i := if_neg e
      rw [this]
      exact base.2.2.2 i (by omega) f hf
  · have newI : ∀ f, f < 8 → ls_iT R' (ls_u rt (N + 2) m (N + 2)) (ls_ino R' m f) := fun f hf => by rw [rtn]; exact Or.inr (Or.inl ⟨f, hf, rfl⟩)
    have iBn : ls_ino R' m b = iB := by rw [hino b hb, if_pos rfl]
    have iAn : a ≠ b → ls_ino R' m a = iA := fun ne => by rw [hino a ha, if_neg ne, if_pos rfl]
    have ext : ∀ e, ((a ≠ b ∧ e = iA) ∨ e = iB ∨ ∃ j, j < 4 ∧ e = ls_dat R iB j) → ls_iT R' (ls_u rt (N + 2) m (N + 2)) e := by
      rintro e (⟨ne, z⟩ | z | ⟨j, hj, z⟩)
      · rw [z, ← iAn ne]; exact newI a ha
      · rw [z, ← iBn]; exact newI b hb
      · rw [rtn]
        exact Or.inr (Or.inr ⟨b, j, hb, hj, by rw [iBn, hdB]; exact z⟩)
    rcases hn with hn | hn
    · rcases cv n hn with ⟨k, hk, hT⟩ | z | z
      · refine ⟨k, by omega, ?_⟩
        rw [rto k hk]
        exact (ls_agT ag hc (h.2.1 k hk).1).mpr hT
      · exact ⟨N + 2, by omega, by rw [z]; exact ext e1 c1⟩
      · exact ⟨N + 2, by omega, by rw [z]; exact ext e2 c2⟩
    · exact ⟨N + 2, by omega, by rw [rtn, hn]; exact Or.inl rfl⟩
/-! ===== how many numbers ===== -/
theorem ls_cn_U {q : Nat → Nat → Prop} {c : Nat → Nat} {N : Nat} : ∀ M, (∀ f, f < M → ls_cn (q f) N ≤ c f) → ls_cn (fun n => ∃ f, f < M ∧ q f n) N ≤ ls_sm c M := by
  intro M
  induction M with
  | zero =>
    intro _
    rw [ls_cn_no N (fun n _ z => by obtain ⟨f, hf, _⟩ := z; omega)]
    exact Nat.zero_le _
  | succ M ih =>
    intro h
    have a := ih (fun f hf => h f (by omega))
    have b := h M (by omega)
    have o := ls_cn_or (p := fun n => ∃ f, f < M + 1 ∧ q f n) (q := fun n => ∃ f, f < M ∧ q f n) (r := q M) N (fun n _ z => by
      obtain ⟨f, hf, hq⟩ := z
      by_cases e : f = M
      · subst e; exact Or.inr hq
      · exact Or.inl ⟨f, by omega, hq⟩)
    show _ ≤ ls_sm c M + c M
    omega
theorem ls_cn_im {d : Nat → Nat} {N : Nat} (B : Nat) : ls_cn (fun n => ∃ b, b < B ∧ n = d b) N ≤ B := by
  have h := ls_cn_U (q := fun b n => n = d b) (c := fun _ => 1) (N := N) B (fun b _ => ls_cn_one _ _)
  have e : ∀ B, ls_sm (fun _ => 1) B = B := by
    intro B
    induction B with
    | zero => rfl
    | succ B ih => show ls_sm _ B + 1 = _; rw [ih]
  rw [e] at h
  exact h
theorem ls_cntT {R : Nat → Nat → Int32} {pl : Nat → Prop} {K : Nat → Nat} {r : Nat} {C : Nat → ls_FR} (h : ls_VX R pl K r C) : ls_cn (fun n => n ≠ 0 ∧ ls_iT R r n) 256 ≤ 9 + ls_sm (fun f => ls_bf (C f).2.2.1) 8 := by
  have h1 := ls_cn_U (q := fun f n => n = ls_ino R r f ∨ (∃ b, b < ls_bf (C f).2.2.1 ∧ n = ls_dat R (ls_ino R r f) b)) (c := fun f => 1 + ls_bf (C f).2.2.1) (N := 256) 8 (fun f _ => by
    have a := ls_cn_or (p := fun n => n = ls_ino R r f ∨ (∃ b, b < ls_bf (C f).2.2.1 ∧ n = ls_dat R (ls_ino R r f) b)) (q := fun n => n = ls_ino R r f) (r := fun n => ∃ b, b < ls_bf (C f).2.2.1 ∧ n = ls_dat R (ls_ino R r f) b) 256 (fun n _ z => z)
    have b := ls_cn_one (ls_ino R r f) 256
    have c := ls_cn_im (d := fun b => ls_dat R (ls_ino R r f) b) (N := 256) (ls_bf (C f).2.2.1)
    show _ ≤ 1 + ls_bf (C f).2.2.1
    omega)
  have h2 := ls_cn_or (p := fun n => n ≠ 0 ∧ ls_iT R r n) (q := fun n => n = r) (r := fun n => ∃ f, f < 8 ∧ (n = ls_ino R r f ∨ (∃ b, b < ls_bf (C f).2.2.1 ∧ n = ls_dat R (ls_ino R r f) b))) 256 (fun n _ z => by
    rcases z with ⟨n0, z | ⟨f, hf, z⟩ | ⟨f, b, hf, hb, z⟩⟩
    · exact Or.inl z
    · exact Or.inr ⟨f, hf, Or.inl z⟩
    · refine Or.inr ⟨f, hf, Or.inr ⟨b, ?_, z⟩⟩
      apply Classical.byContradiction
      intro hh
      have := ((h f hf).2.2.1 b hb).2 (by unfold ls_bf at hh; omega)
      exact n0 (z.trans this))
  have h3 := ls_cn_one r 256
  have h4 : ls_sm (fun f => 1 + ls_bf (C f).2.2.1) 8 = 8 + ls_sm (fun f => ls_bf (C f).2.2.1) 8 := by
    simp only [ls_sm]
    omega
  omega
theorem ls_count {R : Nat → Nat → Int32} {pl : Nat → Prop} {K rt : Nat → Nat} {N : Nat} {A : Nat → Nat → ls_FR} {M : Nat → Nat × Nat} (h : ls_TR R pl K rt N A M) (cv : ls_CV R pl rt N) (hN : N ≤ 24)
    (hu : ∀ k, k ≤ N + 1 → ls_sm (fun f => ls_bf (A k f).2.2.1) 8 ≤ 24) : ls_cn pl 256 ≤ 138 := by
  have t : ∀ k, k ≤ N + 1 → ls_cn (fun n => n ≠ 0 ∧ ls_iT R (rt k) n) 256 ≤ 33 := by
    intro k hk
    have a := ls_cntT (h.2.1 k hk).2
    have b := hu k hk
    omega
  have s : ∀ j, j ≤ N → ls_cn (fun n => n ≠ 0 ∧ ∃ k, 1 ≤ k ∧ k ≤ j + 1 ∧ ls_iT R (rt k) n) 256 ≤ 33 + 3 * j := by
    intro j
    induction j with
    | zero =>
      intro _
      refine Nat.le_trans (ls_cn_le 256 (fun n _ z => ?_)) (t 1 (by omega))
      obtain ⟨z0, k, k1, k2, z⟩ := z
      obtain rfl : k = 1 := by omega
      exact ⟨z0, z⟩
    | succ j ih =>
      intro hj
      have i := ih (by omega)
      obtain ⟨a, b, c, h3⟩ := h.2.2.1 (j + 1) (by omega) hj
      have o := ls_cn_or (p := fun n => n ≠ 0 ∧ ∃ k, 1 ≤ k ∧ k ≤ j + 1 + 1 ∧ ls_iT R (rt k) n) (q := fun n => n ≠ 0 ∧ ∃ k, 1 ≤ k ∧ k ≤ j + 1 ∧ ls_iT R (rt k) n) (r := fun n => n = a ∨ (n = b ∨ n = c)) 256 (fun n _ z => by
        obtain ⟨z0, k, k1, k2, z⟩ := z
        by_cases e : k = j + 2
        · subst e
          rcases h3 n z with y | y | y
          · exact absurd y z0
          · exact Or.inl ⟨z0, j + 1, by omega, by omega, y⟩
          · exact Or.inr y
        · exact Or.inl ⟨z0, k, k1, by omega, z⟩)
      have o2 := ls_cn_or (p := fun n => n = a ∨ (n = b ∨ n = c)) (q := fun n => n = a) (r := fun n => n = b ∨ n = c) 256 (fun n _ z => z)
      have o3 := ls_cn_or (p := fun n => n = b ∨ n = c) (q := fun n => n = b) (r := fun n => n = c) 256 (fun n _ z => z)
      have a1 := ls_cn_one a 256
      have b1 := ls_cn_one b 256
      have c1 := ls_cn_one c 256
      omega
  have f := ls_cn_or (p := pl) (q := fun n => n ≠ 0 ∧ ls_iT R (rt 0) n) (r := fun n => n ≠ 0 ∧ ∃ k, 1 ≤ k ∧ k ≤ N + 1 ∧ ls_iT R (rt k) n) 256 (fun n _ z => by
    have n0 : n ≠ 0 := fun e => h.1.2.1 (e ▸ z)
    obtain ⟨k, hk, hT⟩ := cv n z
    by_cases e : k = 0
    · subst e; exact Or.inl ⟨n0, hT⟩
    · exact Or.inr ⟨n0, k, by omega, hk, hT⟩)
  have a := t 0 (by omega)
  have b := s N (Nat.le_refl _)
  omega
end
section
/-! ===== roots ===== -/
theorem ls_nm1 {k : Nat} (h : k < 2 ^ 31) : ¬ nI k = -1 := by
  intro e
  have := nI_pos h
  rw [e] at this
  exact this (by decide)
section
variable {sF sC sH sV fl bl tl tc pc np mo : Int32} {op : Nat → Int32} {D : Nat → Int32} {R : Nat → Nat → Int32} {pl : Nat → Prop} {q : Nat} {u : SX}
theorem ls_xPrev {post : Int32 → Prop} {n hp : Nat} (h : ls_HX sF sC sH sV fl bl tl tc pc (nI n) mo op D R pl q u) (hn : n ≤ 1) (e : D (4 * (2 - n) + 1) = nI hp) (hp2 : hp < 2) (k : post (nI hp)) : wpX_hasPrevious post u := by
  refine ls_HXe (Q := fun u => wpX_hasPrevious post u) h ?_
  intro ln fs hd hu vi vs dk P lv S V g _
  unfold wpX_hasPrevious
  dsimp only
  rw [show (2 : Int32) - nI n = nI (2 - n) from pk_sub (a := 2) (by omega), ls_4, nI_1, nI_clamp (by omega), g.2.2.2.2 _ (by omega), e]
  refine ⟨vp_in_nI (by omega) (by decide), pk_eq hp 0 (fun z => ?_) (fun z => ?_) rfl rfl (by omega) (by decide)⟩
  · subst z; exact k
  · obtain rfl : hp = 1 := by omega
    exact k
theorem ls_xViewP {post : Int32 → Prop} {n r : Nat} (h : ls_HX sF sC sH sV fl bl tl tc pc (nI n) mo op D R pl q u) (hn : n ≤ 1) (e : D (4 * (2 - n)) = nI r) (k : post (nI r)) : wpX_viewRoot post u (-1) := by
  refine ls_HXe (Q := fun u => wpX_viewRoot post u (-1)) h ?_
  intro ln fs hd hu vi vs dk P lv S V g _
  unfold wpX_viewRoot
  refine br_t rfl ?_
  rw [show (2 : Int32) - nI n = nI (2 - n) from pk_sub (a := 2) (by omega), ls_4, nI_clamp (by omega), g.2.2.2.2 _ (by omega), e]
  exact ⟨vp_in_nI (by omega) (by decide), k⟩
theorem ls_xView {post : Int32 → Prop} {n v : Nat} {rt : Nat → Nat} (h : ls_HX sF sC sH sV fl bl tl tc pc (nI n) mo (ls_f (fun j => rt (j + 2))) D R pl q u) (hn : n ≤ 1) (e : D (4 * (1 + n)) = nI (rt 1)) (hv : v ≤ 24) (k : post (nI (rt (v + 1)))) : wpX_viewRoot post u (nI v) := by
  refine ls_HXe (Q := fun u => wpX_viewRoot post u (nI v)) h ?_
  intro ln fs hd hu vi vs dk P lv S V g _
  unfold wpX_viewRoot
  refine br_f (ls_nm1 (by omega)) (pk_le v 0 (fun z => ?_) (fun z => ?_) rfl rfl (by omega) (by decide))
  · obtain rfl : v = 0 := by omega
    unfold wX_viewRoot_29
    rw [show (1 : Int32) + nI n = nI (1 + n) from nI_add 1 n, ls_4, nI_clamp (by omega), g.2.2.2.2 _ (by omega), e]
    exact ⟨vp_in_nI (by omega) (by decide), k⟩
  · refine pk_le v 24 (fun _ => ?_) (fun l => by omega) rfl rfl (by omega) (by decide)
    rw [show nI v - 1 = nI (v - 1) from pk_sub (b := 1) (by omega), ls_fc (by omega)]
    refine ⟨vp_in_nI (by omega) (by decide), ?_⟩
    show post (nI (rt (v - 1 + 2)))
    rw [show v - 1 + 2 = v + 1 from by omega]
    exact k
theorem ls_HXd {ln fs hd hu vi vs : Int32} {dk pa lv ss sl : Nat → Int32} (h : ls_HX sF sC sH sV fl bl tl tc pc np mo op D R pl q (sF, sC, sH, sV, fl, bl, tl, ln, fs, hd, hu, vi, vs, tc, pc, np, mo, dk, pa, lv, ss, sl, op)) : ∃ (ln' fs' hd' hu' vi' vs' : Nat) (P' S' V' : Nat → Nat),
    (ln = nI ln' ∧ fs = nI fs' ∧ hd = nI hd' ∧ hu = nI hu' ∧ vi = nI vi' ∧ vs = nI vs' ∧ pa = ls_f P' ∧ ss = ls_f S' ∧ sl = ls_f V') ∧ ls_G D R pl ln' fs' hd' hu' vi' vs' dk P' S' V' ∧ (q = 0 ∨ (hu' + q ≤ 7 * fs' ∧ ls_cn pl 256 + q ≤ 200)) := by
  obtain ⟨ln', fs', hd', hu', vi', vs', dk', P', lv', S', V', e, g, b⟩ := h
  simp only [Prod.mk.injEq] at e
  obtain ⟨_, _, _, _, _, _, _, e1, e2, e3, e4, e5, e6, _, _, _, _, e7, e8, e9, e10, e11, _⟩ := e
  subst e7
  exact ⟨ln', fs', hd', hu', vi', vs', P', S', V', ⟨e1, e2, e3, e4, e5, e6, e8, e10, e11⟩, g, b⟩
/-- fields outside the log, and the marks, may change -/
theorem ls_HXf {ln fs hd hu vi vs : Int32} {dk pa lv ss sl : Nat → Int32} {tc' pc' np' mo' : Int32} {op' lv' : Nat → Int32} (h : ls_HX sF sC sH sV fl bl tl tc pc np mo op D R pl q (sF, sC, sH, sV, fl, bl, tl, ln, fs, hd, hu, vi, vs, tc, pc, np, mo, dk, pa, lv, ss, sl, op)) : ls_HX sF sC sH sV fl bl tl tc' pc' np' mo' op' D R pl q (sF, sC, sH, sV, fl, bl, tl, ln, fs, hd, hu, vi, vs, tc', pc', np', mo', dk, pa, lv', ss, sl, op') := by
  obtain ⟨ln', fs', hd', hu', vi', vs', P', S', V', ⟨e1, e2, e3, e4, e5, e6, e7, e8, e9⟩, g, b⟩ := ls_HXd h
  subst e1 e2 e3 e4 e5 e6 e7 e8 e9
  exact ⟨_, _, _, _, _, _, _, _, _, _, _, rfl, g, b⟩
end
/-! ===== marks ===== -/
def ls_MI (R : Nat → Nat → Int32) (K : Nat → Nat) (Y : Nat → Prop) (r i : Nat) (lv : Nat → Int32) : Prop :=
  ∀ n, n < 256 → n ≠ 0 → lv n ≠ 0 → Y n ∧ (n ≠ r → K n = 1 → ∀ f, f < 8 → ls_ino R n f = 0 ∨ lv (ls_ino R n f) ≠ 0) ∧ (n ≠ i → K n = 2 → ∀ b, b < 4 → ls_dat R n b = 0 ∨ lv (ls_dat R n b) ≠ 0)
theorem ls_b1 : vp_nar .boolean 1 = 1 := rfl
theorem ls_b0 : vp_nar .boolean 0 = 0 := rfl
theorem ls_mono {lv : Nat → Int32} {d : Nat} {x : Nat} (h : lv x ≠ 0) : upd lv d 1 x ≠ 0 := by
  by_cases e : x = d
  · subst e; rw [pk_us]; decide
  · rw [pk_un e]; exact h
theorem ls_set1 {lv : Nat → Int32} {d : Nat} : upd lv d 1 d ≠ 0 := by rw [pk_us]; decide
/-- marking d, of which nothing is asked beyond the exceptions r, i -/
theorem ls_MIu {R : Nat → Nat → Int32} {K : Nat → Nat} {Y : Nat → Prop} {r i r' i' d : Nat} {lv : Nat → Int32} (h : ls_MI R K Y r i lv) (hY : d ≠ 0 → Y d) (hr : r' = r ∨ (r = 0 ∧ r' = d)) (hi : i' = i ∨ (i = 0 ∧ i' = d)) (h1 : d ≠ 0 → d ≠ r' → K d ≠ 1) (h2 : d ≠ 0 → d ≠ i' → K d ≠ 2) : ls_MI R K Y r' i' (upd lv d 1) := by
  intro n hn n0 hl
  by_cases e : n = d
  · subst e
    exact ⟨hY n0, fun a b => absurd b (h1 n0 a), fun a b => absurd b (h2 n0 a)⟩
  · rw [pk_un e] at hl
    have a := h n hn n0 hl
    refine ⟨a.1, fun b c f hf => ?_, fun b c j hj => ?_⟩
    · rcases a.2.1 (by omega) c f hf with z | z
      · exact Or.inl z
      · exact Or.inr (ls_mono z)
    · rcases a.2.2 (by omega) c j hj with z | z
      · exact Or.inl z
      · exact Or.inr (ls_mono z)
section
variable {sF sC sH sV fl bl tl tc pc np mo : Int32} {op : Nat → Int32} {D : Nat → Int32} {R : Nat → Nat → Int32} {pl : Nat → Prop} {q : Nat} {ln fs hd hu vi vs : Int32} {dk pa ss sl : Nat → Int32} {K : Nat → Nat} {Y : Nat → Prop}
theorem ls_xMark75 {post : SX → Prop} {J : Int32 → (Nat → Int32) → (Nat → Int32) → (Nat → Int32) → (Nat → Int32) → (Nat → Int32) → (Nat → Int32) → Prop} {x1 : Int32} {r f i : Nat} {lv0 : Nat → Int32}
    (hdd : ∀ b, b < 4 → ls_dat R i b = 0 ∨ K (ls_dat R i b) = 3) (hY : ∀ b, b < 4 → Y (ls_dat R i b))
    (k : ∀ lv, ls_MI R K Y r i lv → (∀ n, lv0 n ≠ 0 → lv n ≠ 0) → (∀ b, b < 4 → ls_dat R i b = 0 ∨ lv (ls_dat R i b) ≠ 0) → J (nI (f + 1)) dk pa lv ss sl op) :
    ∀ d b n lv, b + d = 4 → d < n → ls_MI R K Y r i lv → (∀ n, lv0 n ≠ 0 → lv n ≠ 0) → (∀ b', b' < b → ls_dat R i b' = 0 ∨ lv (ls_dat R i b') ≠ 0) → wX_markTree_75 post J x1 (nI f) (R i 1) sF sC sH sV fl bl tl ln fs hd hu vi vs tc pc np mo n (nI b) dk pa lv ss sl op := by
  intro d
  induction d with
  | zero =>
    intro b n lv hb hn hm hmo hdone
    obtain ⟨n, rfl⟩ : ∃ n', n = n' + 1 := ⟨n - 1, by omega⟩
    obtain rfl : b = 4 := by omega
    exact br_t (nI_le (a := 4) (by omega) (by decide)) (nm_r (nI_1 f) (k lv hm hmo hdone))
  | succ d ih =>
    intro b n lv hb hn hm hmo hdone
    obtain ⟨n, rfl⟩ : ∃ n', n = n' + 1 := ⟨n - 1, by omega⟩
    refine br_f (nI_ge (b := 4) (by omega) (by decide)) ?_
    refine ls_xGB _ (i := b) rfl (by omega) ?_
    refine ⟨vp_in_nI (ls_gb_lt _ _) (by decide), nm_r (e' := upd lv (ls_dat R i b) 1) ?_ (nm_r (nI_1 b) (ih (b + 1) n _ (by omega) (by omega) ?_ (fun n hh => ls_mono (hmo n hh)) ?_))⟩
    · rw [ls_b1, nI_clamp (Nat.lt_trans (ls_gb_lt _ _) (by decide))]; rfl
    · refine ls_MIu hm (fun _ => hY b (by omega)) (Or.inl rfl) (Or.inl rfl) (fun z _ => ?_) (fun z _ => ?_)
      · rcases hdd b (by omega) with y | y
        · exact absurd y z
        · omega
      · rcases hdd b (by omega) with y | y
        · exact absurd y z
        · omega
    · intro b' hb'
      by_cases e : b' = b
      · subst e; exact Or.inr ls_set1
      · rcases hdone b' (by omega) with z | z
        · exact Or.inl z
        · exact Or.inr (ls_mono z)
theorem ls_xMark31 {post : SX → Prop} {r : Nat} {lv0 : Nat → Int32} (hh : ∀ lv, ls_HX sF sC sH sV fl bl tl tc pc np mo op D R pl q (sF, sC, sH, sV, fl, bl, tl, ln, fs, hd, hu, vi, vs, tc, pc, np, mo, dk, pa, lv, ss, sl, op)) (hc : ls_HC R pl K) (r2 : r < 256) (r0 : r ≠ 0) (hr : pl r) (hk : K r = 1) (hY : ∀ n, ls_iT R r n → Y n)
    (k : ∀ lv, ls_MI R K Y 0 0 lv → (∀ n, lv0 n ≠ 0 → lv n ≠ 0) → post (sF, sC, sH, sV, fl, bl, tl, ln, fs, hd, hu, vi, vs, tc, pc, np, mo, dk, pa, lv, ss, sl, op)) :
    ∀ d f n lv, f + d = 8 → d < n → ls_MI R K Y r 0 lv → (∀ n, lv0 n ≠ 0 → lv n ≠ 0) → (∀ f', f' < f → ls_ino R r f' = 0 ∨ lv (ls_ino R r f') ≠ 0) → wX_markTree_31 post (nI r) sF sC sH sV fl bl tl ln fs hd hu vi vs tc pc np mo n (nI f) dk pa lv ss sl op := by
  intro d
  induction d with
  | zero =>
    intro f n lv hf hn hm hmo hdone
    obtain ⟨n, rfl⟩ : ∃ n', n = n' + 1 := ⟨n - 1, by omega⟩
    obtain rfl : f = 8 := by omega
    refine br_t (nI_le (a := 8) (by omega) (by decide)) (k lv ?_ hmo)
    intro n hn n0 hl
    have a := hm n hn n0 hl
    refine ⟨a.1, fun _ c f hf => ?_, a.2.2⟩
    by_cases e : n = r
    · subst e; exact hdone f hf
    · exact a.2.1 e c f hf
  | succ d ih =>
    intro f n lv hf hn hm hmo hdone
    obtain ⟨n, rfl⟩ : ∃ n', n = n' + 1 := ⟨n - 1, by omega⟩
    have hRO : ls_RO pl K r := Or.inr ⟨hr, hk⟩
    have hi2 : ls_ino R r f < 256 := ls_gb_lt _ _
    have hii := ls_HCi hc hRO (f := f) (by omega)
    refine br_f (nI_ge (b := 8) (by omega) (by decide)) ?_
    refine ls_xIno (hh lv) r2 (f := f) (by omega) ?_
    refine pk_eq (ls_ino R r f) 0 (fun e => ?_) (fun e => ?_) rfl rfl (by omega) (by decide)
    · refine nm_r (nI_1 f) (ih (f + 1) n lv (by omega) (by omega) hm hmo (fun f' hf' => ?_))
      by_cases z : f' = f
      · subst z; exact Or.inl e
      · exact hdone f' (by omega)
    · refine ⟨vp_in_nI hi2 (by decide), ?_⟩
      rw [nI_clamp (by omega)]
      obtain ⟨ip, ik⟩ : pl (ls_ino R r f) ∧ K (ls_ino R r f) = 2 := by
        rcases hii with z | z
        · exact absurd z e
        · exact z
      refine br_c (fun e0 => ?_) (fun e1 => ?_)
      · refine ⟨vp_in_nI hi2 (by decide), nm_r (e' := upd lv (ls_ino R r f) 1) (by rw [ls_b1]) ?_⟩
        refine ls_xRead (hh _) hi2 (w := 1) (by omega) ?_
        refine ⟨5, ls_xMark75 (R := R) (K := K) (Y := Y) (r := r) (i := ls_ino R r f) (lv0 := upd lv (ls_ino R r f) 1) (fun b hb => ?_) (fun b hb => hY _ (Or.inr (Or.inr ⟨f, b, by omega, hb, rfl⟩))) (fun lv' hm' hmo' hd' => ?_) 4 0 5 _ (by omega) (by omega) ?_ (fun n hh => hh) (fun b' hb' => by omega)⟩
        · rcases ls_HCd hc hRO (f := f) (b := b) (by omega) hb with z | z
          · exact Or.inl z
          · exact Or.inr z.2
        · refine ih (f + 1) n lv' (by omega) (by omega) ?_ (fun n hn => hmo' n (ls_mono (hmo n hn))) (fun f' hf' => ?_)
          · intro n hn n0 hl
            have a := hm' n hn n0 hl
            refine ⟨a.1, a.2.1, fun _ c b hb => ?_⟩
            by_cases z : n = ls_ino R r f
            · subst z; exact hd' b hb
            · exact a.2.2 z c b hb
          · by_cases z : f' = f
            · subst z; exact Or.inr (hmo' _ ls_set1)
            · rcases hdone f' (by omega) with y | y
              · exact Or.inl y
              · exact Or.inr (hmo' _ (ls_mono y))
        · exact ls_MIu hm (fun _ => hY _ (Or.inr (Or.inl ⟨f, by omega, rfl⟩))) (Or.inl rfl) (Or.inr ⟨rfl, rfl⟩) (fun _ _ => by omega) (fun _ z => absurd rfl z)
      · refine nm_r (nI_1 f) (ih (f + 1) n lv (by omega) (by omega) hm hmo (fun f' hf' => ?_))
        by_cases z : f' = f
        · subst z; exact Or.inr e1
        · exact hdone f' (by omega)
theorem ls_xMarkTree {post : SX → Prop} {r : Nat} {lv : Nat → Int32} (hh : ∀ lv, ls_HX sF sC sH sV fl bl tl tc pc np mo op D R pl q (sF, sC, sH, sV, fl, bl, tl, ln, fs, hd, hu, vi, vs, tc, pc, np, mo, dk, pa, lv, ss, sl, op)) (hc : ls_HC R pl K) (hr : ls_RO pl K r) (hY : ∀ n, ls_iT R r n → Y n) (hm : ls_MI R K Y 0 0 lv)
    (k : ∀ lv', ls_MI R K Y 0 0 lv' → (∀ n, lv n ≠ 0 → lv' n ≠ 0) → (r ≠ 0 → lv' r ≠ 0) → post (sF, sC, sH, sV, fl, bl, tl, ln, fs, hd, hu, vi, vs, tc, pc, np, mo, dk, pa, lv', ss, sl, op)) : wpX_markTree post (sF, sC, sH, sV, fl, bl, tl, ln, fs, hd, hu, vi, vs, tc, pc, np, mo, dk, pa, lv, ss, sl, op) (nI r) := by
  have r2 : r < 256 := by
    rcases hr with z | z
    · omega
    · exact (ls_HXp (hh lv) r z.1).1
  have e : nI r &&& 255 = nI r := by
    rw [pk_andN (k := 8) (by omega) (by decide)]
    exact congrArg nI (by omega)
  unfold wpX_markTree
  refine pk_eq r 0 (fun z => k lv hm (fun _ h => h) (fun y => absurd z y)) (fun z => ?_) rfl rfl (by omega) (by decide)
  obtain ⟨hp, hk⟩ : pl r ∧ K r = 1 := by
    rcases hr with y | y
    · exact absurd y z
    · exact y
  rw [e, nI_clamp (by omega)]
  refine ⟨vp_in_nI r2 (by decide), br_c (fun _ => ?_) (fun y => k lv hm (fun _ h => h) (fun _ => y))⟩
  refine ⟨vp_in_nI r2 (by decide), nm_r (e' := upd lv r 1) (by rw [ls_b1]) ?_⟩
  refine ⟨9, ls_xMark31 (K := K) (Y := Y) (lv0 := upd lv r 1) hh hc r2 z hp hk hY (fun lv' a b => k lv' a (fun n hn => b n (ls_mono hn)) (fun _ => b r ls_set1)) 8 0 9 _ (by omega) (by omega) ?_ (fun _ h => h) (fun f' hf' => by omega)⟩
  exact ls_MIu hm (fun _ => hY r (Or.inl rfl)) (Or.inr ⟨rfl, rfl⟩) (Or.inl rfl) (fun _ y => absurd rfl y) (fun _ _ => by omega)
theorem ls_xLive52 {post : SX → Prop} {n0 N : Nat} {rt : Nat → Nat} (hN : N ≤ 24) (hh : ∀ lv, ls_HX sF sC sH sV fl bl tl tc pc (nI n0) mo (ls_f (fun j => rt (j + 2))) D R pl q (sF, sC, sH, sV, fl, bl, tl, ln, fs, hd, hu, vi, vs, tc, pc, (nI n0), mo, dk, pa, lv, ss, sl, (ls_f (fun j => rt (j + 2))))) (hn0 : n0 ≤ 1) (e1 : D (4 * (1 + n0)) = nI (rt 1)) (hc : ls_HC R pl K) (hr : ∀ k, k ≤ N + 1 → ls_RO pl K (rt k)) (hY : ∀ k n, k ≤ N + 1 → ls_iT R (rt k) n → Y n)
    (k : ∀ lv, ls_MI R K Y 0 0 lv → (∀ k, k ≤ N + 1 → rt k ≠ 0 → lv (rt k) ≠ 0) → post (sF, sC, sH, sV, fl, bl, tl, ln, fs, hd, hu, vi, vs, tc, pc, (nI n0), mo, dk, pa, lv, ss, sl, (ls_f (fun j => rt (j + 2))))) :
    ∀ d v n lv, v + d = N + 1 → d < n → ls_MI R K Y 0 0 lv → (∀ k, k ≤ v → rt k ≠ 0 → lv (rt k) ≠ 0) → wX_markLive_52 post (nI N) n (nI v) sF sC sH sV fl bl tl ln fs hd hu vi vs tc pc (nI n0) mo dk pa lv ss sl (ls_f (fun j => rt (j + 2))) := by
  intro d
  induction d with
  | zero =>
    intro v n lv hv hn hm hdone
    obtain ⟨n, rfl⟩ : ∃ n', n = n' + 1 := ⟨n - 1, by omega⟩
    obtain rfl : v = N + 1 := by omega
    have kk := k lv hm hdone
    refine pk_lt 24 (N + 1) (fun _ => kk) (fun _ => ?_) rfl rfl (by decide) (by omega)
    exact br_t (nI_lt (by omega) (by omega)) kk
  | succ d ih =>
    intro v n lv hv hn hm hdone
    obtain ⟨n, rfl⟩ : ∃ n', n = n' + 1 := ⟨n - 1, by omega⟩
    refine br_f (nI_nlt (b := v) (a := 24) (by omega) (by decide)) (br_f (nI_nlt (by omega) (by omega)) ?_)
    refine ls_xView (hh lv) hn0 e1 (by omega) ?_
    refine ls_xMarkTree hh hc (hr (v + 1) (by omega)) (fun n => hY (v + 1) n (by omega)) hm (fun lv' a b c => ?_)
    refine nm_r (nI_1 v) (ih (v + 1) n lv' (by omega) (by omega) a (fun k hk h0 => ?_))
    by_cases z : k = v + 1
    · subst z; exact c h0
    · exact b _ (hdone k (by omega) h0)
end
end
section
/-! ===== the sweep ===== -/
section
variable {sF sC sH sV fl bl tl tc pc np mo : Int32} {op : Nat → Int32} {D : Nat → Int32} {R : Nat → Nat → Int32} {pl : Nat → Prop} {q : Nat} {ln fs hd hu vi vs : Int32} {dk pa ss sl : Nat → Int32} {K : Nat → Nat} {Y : Nat → Prop}
theorem ls_xLive2 {post : SX → Prop} {t p n0 hp : Nat} {rt : Nat → Nat} (hN : t + p ≤ 24) (hh : ∀ lv, ls_HX sF sC sH sV fl bl tl (nI t) (nI p) (nI n0) mo (ls_f (fun j => rt (j + 2))) D R pl q (sF, sC, sH, sV, fl, bl, tl, ln, fs, hd, hu, vi, vs, (nI t), (nI p), (nI n0), mo, dk, pa, lv, ss, sl, (ls_f (fun j => rt (j + 2))))) (hn0 : n0 ≤ 1) (e1 : D (4 * (1 + n0)) = nI (rt 1)) (e0 : D (4 * (2 - n0)) = nI (rt 0)) (eh : D (4 * (2 - n0) + 1) = nI hp) (hp2 : hp < 2) (h0 : hp = 0 → rt 0 = 0)
    (hc : ls_HC R pl K) (hr : ∀ k, k ≤ t + p + 1 → ls_RO pl K (rt k)) (hY : ∀ k n, k ≤ t + p + 1 → ls_iT R (rt k) n → Y n)
    (k : ∀ lv, ls_MI R K Y 0 0 lv → (∀ k, k ≤ t + p + 1 → rt k ≠ 0 → lv (rt k) ≠ 0) → post (sF, sC, sH, sV, fl, bl, tl, ln, fs, hd, hu, vi, vs, (nI t), (nI p), (nI n0), mo, dk, pa, lv, ss, sl, (ls_f (fun j => rt (j + 2))))) :
    ∀ d x n lv, x + d = 256 → d < n → (∀ j, j < x → lv j = 0) → wX_markLive_2 post sF sC sH sV fl bl tl ln fs hd hu vi vs (nI t) (nI p) (nI n0) mo n (nI x) dk pa lv ss sl (ls_f (fun j => rt (j + 2))) := by
  intro d
  induction d with
  | zero =>
    intro x n lv hx hn hz
    obtain ⟨n, rfl⟩ : ∃ n', n = n' + 1 := ⟨n - 1, by omega⟩
    obtain rfl : x = 256 := by omega
    have hm : ls_MI R K Y 0 0 lv := fun n hn _ hl => absurd (hz n hn) hl
    have main : ∀ lv, ls_MI R K Y 0 0 lv → (rt 0 ≠ 0 → lv (rt 0) ≠ 0) → wX_markLive_40 post sF sC sH sV fl bl tl ln fs hd hu vi vs (nI t) (nI p) (nI n0) mo dk pa lv ss sl (ls_f (fun j => rt (j + 2))) := by
      intro lv hm hd
      unfold wX_markLive_40
      refine nm_r (nI_add t p) ⟨t + p + 2, ls_xLive52 (N := t + p) hN hh hn0 e1 hc hr hY k (t + p + 1) 0 (t + p + 2) lv (by omega) (by omega) hm (fun k hk h0 => ?_)⟩
      obtain rfl : k = 0 := by omega
      exact hd h0
    refine br_t (nI_le (a := 256) (by omega) (by decide)) ?_
    refine ls_xPrev (hh lv) hn0 eh hp2 ?_
    refine pk_eq hp 0 (fun z => main lv hm (fun y => absurd (h0 z) y)) (fun z => ?_) rfl rfl (by omega) (by decide)
    refine ls_xViewP (hh lv) hn0 e0 ?_
    exact ls_xMarkTree hh hc (hr 0 (by omega)) (fun n => hY 0 n (by omega)) hm (fun lv' a b c => main lv' a c)
  | succ d ih =>
    intro x n lv hx hn hz
    obtain ⟨n, rfl⟩ : ∃ n', n = n' + 1 := ⟨n - 1, by omega⟩
    refine br_f (nI_ge (b := 256) (by omega) (by decide)) ⟨vp_in_nI (by omega) (by decide), nm_r (e' := upd lv x 0) (by rw [ls_b0, nI_clamp (by omega)]) (nm_r (nI_1 x) (ih (x + 1) n _ (by omega) (by omega) (fun j hj => ?_)))⟩
    by_cases z : j = x
    · subst z; exact pk_us
    · rw [pk_un z]; exact hz j (by omega)
end
theorem ls_LAdrop {ln fs hd hu vi vs : Nat} {dk : Nat → Int32} {P S V : Nat → Nat} (h : ls_LA ln fs hd hu vi vs dk P S V) {m : Nat} (m2 : m < 256) (hm : P m ≠ 0) : ls_LA ln fs hd hu vi vs dk (ls_u P m 0) S (ls_u V (P m / 8) (V (P m / 8) - 1)) := by
  obtain ⟨a, b, d, e, f, g, i⟩ := h
  have gm := g m m2 hm
  refine ⟨a, b, d, e, ?_, ?_, ?_⟩
  · by_cases z : 0 = m
    · subst z; exact ls_us
    · rw [ls_un z]; exact f
  · intro n hn h0
    by_cases z : n = m
    · subst z; rw [ls_us] at h0; exact absurd rfl h0
    · rw [ls_un z] at h0 ⊢; exact g n hn h0
  · intro s s1 s2
    by_cases z : s = P m / 8
    · subst z
      rw [ls_us, i _ s1 s2]
      have w := ls_cn_add (p := fun n => ls_u P m 0 n / 8 = P m / 8) (q := fun n => P n / 8 = P m / 8) m2 (by rw [ls_us]; omega) (fun n _ => by
        by_cases en : n = m
        · subst en; exact ⟨fun _ => Or.inr rfl, fun _ => rfl⟩
        · rw [ls_un en]; exact ⟨fun z => Or.inl z, fun z => by rcases z with z | z; exact z; exact absurd z en⟩)
      omega
    · rw [ls_un z, i s s1 s2]
      refine ls_cn_cg _ (fun n _ => ?_)
      by_cases en : n = m
      · subst en; rw [ls_us]; exact ⟨fun y => absurd y.symm z, fun y => by omega⟩
      · rw [ls_un en]
section
variable {sF sC sH sV fl bl tl tc pc np mo : Int32} {op dk lv : Nat → Int32} {ln hd hu vs : Nat} {P V : Nat → Nat}
theorem ls_xSweep95 {post : SX → Prop} {vi : Nat}
    (k : ∀ fs S, ls_LA ln fs hd hu vi vs dk P S V → ls_LC fs hu vi V → post (sF, sC, sH, sV, fl, bl, tl, (nI ln), (nI fs), (nI hd), (nI hu), (nI vi), (nI vs), tc, pc, np, mo, dk, (ls_f P), lv, (ls_f S), (ls_f V), op)) :
    ∀ d s n fs S, s + d = 32 → d < n → 1 ≤ s → ls_LA ln fs hd hu vi vs dk P S V → ls_LC fs hu vi V → wX_sweep_95 post n (nI s) sF sC sH sV fl bl tl (nI ln) (nI fs) (nI hd) (nI hu) (nI vi) (nI vs) tc pc np mo dk (ls_f P) lv (ls_f S) (ls_f V) op := by
  intro d
  induction d with
  | zero =>
    intro s n fs S hs hn s1 h hl
    obtain ⟨n, rfl⟩ : ∃ n', n = n' + 1 := ⟨n - 1, by omega⟩
    obtain rfl : s = 32 := by omega
    exact br_t (nI_le (a := 32) (by omega) (by decide)) (k fs S h hl)
  | succ d ih =>
    intro s n fs S hs hn s1 h hl
    obtain ⟨n, rfl⟩ : ∃ n', n = n' + 1 := ⟨n - 1, by omega⟩
    have hS := (h.2.1 s s1 (by omega)).1
    have hV : V s ≤ 256 := by rw [h.2.2.2.2.2.2 s s1 (by omega)]; exact ls_cn_up _
    refine br_f (nI_ge (b := 32) (by omega) (by decide)) ⟨vp_in_nI (by omega) (by decide), pk_eq (S s) 1 (fun e => ?_) (fun e => ?_) (ls_fc (by omega)) rfl (by omega) (by decide)⟩
    · refine ⟨vp_in_nI (by omega) (by decide), pk_eq (V s) 0 (fun e2 => ?_) (fun e2 => ?_) (ls_fc (by omega)) rfl (by omega) (by decide)⟩
      · refine ls_xRel (by omega) ?_
        have hvi : vi ≠ s := by
          intro z
          rcases h.2.2.1 with d | d
          · omega
          · rw [z] at d; omega
        refine nm_r (nI_1 s) (ih (s + 1) n (fs + 1) (ls_u S s 0) (by omega) (by omega) (by omega) (ls_LArel h s1 (by omega) (Or.inl e) e2 (Or.inl ⟨rfl, hvi, rfl⟩)) ⟨fun _ => by omega, fun z => ?_⟩)
        have := hl.2 z
        omega
      · exact nm_r (nI_1 s) (ih (s + 1) n fs S (by omega) (by omega) (by omega) h hl)
    · exact nm_r (nI_1 s) (ih (s + 1) n fs S (by omega) (by omega) (by omega) h hl)
end
section
variable {sF sC sH sV fl bl tl tc pc np mo : Int32} {op dk lv : Nat → Int32} {ln fs hd hu vi vs : Nat} {P0 S : Nat → Nat}
theorem ls_xSweep6 {post : SX → Prop}
    (k : ∀ fs vi P S V, ls_LA ln fs hd hu vi vs dk P S V → ls_LC fs hu vi V → (∀ n, n < 256 → (P n = P0 n ∧ (n ≠ 0 → P n ≠ 0 → lv n ≠ 0)) ∨ (P n = 0 ∧ lv n = 0)) → post (sF, sC, sH, sV, fl, bl, tl, (nI ln), (nI fs), (nI hd), (nI hu), (nI vi), (nI vs), tc, pc, np, mo, dk, (ls_f P), lv, (ls_f S), (ls_f V), op)) :
    ∀ d x n P V, x + d = 256 → d < n → 1 ≤ x → ls_LA ln fs hd hu vi vs dk P S V → ls_LC fs hu vi V → (∀ n, n < 256 → (P n = P0 n ∧ (n ≠ 0 → n < x → P n ≠ 0 → lv n ≠ 0)) ∨ (P n = 0 ∧ lv n = 0)) → wX_sweep_6 post sF sC sH sV fl bl tl (nI ln) (nI fs) (nI hd) (nI hu) (nI vi) (nI vs) tc pc np mo n (nI x) dk (ls_f P) lv (ls_f S) (ls_f V) op := by
  intro d
  induction d with
  | zero =>
    intro x n P V hx hn x1 h hl hP
    obtain ⟨n, rfl⟩ : ∃ n', n = n' + 1 := ⟨n - 1, by omega⟩
    obtain rfl : x = 256 := by omega
    have hP' : ∀ n, n < 256 → (P n = P0 n ∧ (n ≠ 0 → P n ≠ 0 → lv n ≠ 0)) ∨ (P n = 0 ∧ lv n = 0) := by
      intro n hn
      rcases hP n hn with z | z
      · exact Or.inl ⟨z.1, fun a b => z.2 a hn b⟩
      · exact Or.inr z
    have hvl : vi < 32 := by rcases h.2.2.1 with d | d <;> omega
    have fin : ∀ fs vi S, ls_LA ln fs hd hu vi vs dk P S V → ls_LC fs hu vi V → ∃ n95 : Nat, wX_sweep_95 post n95 1 sF sC sH sV fl bl tl (nI ln) (nI fs) (nI hd) (nI hu) (nI vi) (nI vs) tc pc np mo dk (ls_f P) lv (ls_f S) (ls_f V) op := by
      intro fs vi S h hl
      exact ⟨32, ls_xSweep95 (fun fs S h hl => k fs vi P S V h hl hP') 31 1 32 fs S (by omega) (by omega) (by omega) h hl⟩
    refine br_t (nI_le (a := 256) (by omega) (by decide)) (pk_eq vi 0 (fun e => fin fs vi S h hl) (fun e => ?_) rfl rfl (by omega) (by decide))
    obtain ⟨d1, d2, d3, d4, d5⟩ : 1 ≤ vi ∧ vi < 32 ∧ S vi = 3 ∧ 1 ≤ vs ∧ vs ≤ 7 := by
      rcases h.2.2.1 with d | d
      · exact absurd d e
      · exact d
    have hl2 := hl.2 e
    refine ⟨vp_in_nI hvl (by decide), pk_eq (V vi) 0 (fun e2 => ?_) (fun e2 => fin fs vi S h hl) (ls_fc (by omega)) rfl (by omega) (by decide)⟩
    refine ls_xRel hvl ?_
    exact fin (fs + 1) 0 (ls_u S vi 0) (ls_LArel h d1 d2 (Or.inr d3) e2 (Or.inr ⟨rfl, rfl⟩)) ⟨fun _ => by omega, fun z => absurd rfl z⟩
  | succ d ih =>
    intro x n P V hx hn x1 h hl hP
    obtain ⟨n, rfl⟩ : ∃ n', n = n' + 1 := ⟨n - 1, by omega⟩
    have hPx := ls_LA_P h x (by omega)
    refine br_f (nI_ge (b := 256) (by omega) (by decide)) ⟨vp_in_nI (by omega) (by decide), pk_eq (P x) 0 (fun e => ?_) (fun e => ?_) (ls_fc (by omega)) rfl (by omega) (by decide)⟩
    · refine nm_r (nI_1 x) (ih (x + 1) n P V (by omega) (by omega) (by omega) h hl (fun m hm => ?_))
      rcases hP m hm with z | z
      · refine Or.inl ⟨z.1, fun a b c => ?_⟩
        by_cases y : m = x
        · subst y; exact absurd e c
        · exact z.2 a (by omega) c
      · exact Or.inr z
    · refine ⟨vp_in_nI (by omega) (by decide), ?_⟩
      rw [nI_clamp (show x < 2 ^ 31 by omega)]
      refine br_c (fun e0 => ?_) (fun e1 => ?_)
      · have gm := h.2.2.2.2.2.1 x (by omega) e
        have hV : 1 ≤ V (P x / 8) := by
          have g1 := gm.1
          rw [h.2.2.2.2.2.2 (P x / 8) (by omega) (by omega)]
          exact ls_cn_pos (p := fun n => P n / 8 = P x / 8) (n := x) rfl (by omega)
        rw [show ls_f P x = nI (P x) from rfl, ls_sh3 (by omega)]
        refine ⟨vp_in_nI (by omega) (by decide), vp_in_nI (by omega) (by decide), vp_in_nI (by omega) (by decide), nm_r (ls_uc (x := V (P x / 8) - 1) (by omega) ?_) ⟨vp_in_nI (by omega) (by decide), nm_r (ls_uf (x := 0) rfl) (nm_r (nI_1 x) (ih (x + 1) n (ls_u P x 0) (ls_u V (P x / 8) (V (P x / 8) - 1)) (by omega) (by omega) (by omega) (ls_LAdrop h (by omega) e) ⟨hl.1, fun z => ?_⟩ (fun m hm => ?_)))⟩⟩
        · rw [ls_fc (by omega)]
          exact pk_sub (b := 1) hV
        · have := hl.2 z
          by_cases y : vi = P x / 8
          · subst y; rw [ls_us]; omega
          · rw [ls_un y]; exact this
        · by_cases y : m = x
          · subst y; rw [ls_us]; exact Or.inr ⟨rfl, e0⟩
          · rw [ls_un y]
            rcases hP m hm with z | z
            · exact Or.inl ⟨z.1, fun a b c => z.2 a (by omega) c⟩
            · exact Or.inr z
      · refine nm_r (nI_1 x) (ih (x + 1) n P V (by omega) (by omega) (by omega) h hl (fun m hm => ?_))
        rcases hP m hm with z | z
        · refine Or.inl ⟨z.1, fun a b c => ?_⟩
          by_cases y : m = x
          · subst y; exact e1
          · exact z.2 a (by omega) c
        · exact Or.inr z
end
/-- the trees of the retained roots stand when all else is given up -/
theorem ls_swT {R R' : Nat → Nat → Int32} {pl pl' : Nat → Prop} {K rt : Nat → Nat} {N : Nat} {A : Nat → Nat → ls_FR} {M : Nat → Nat × Nat} {lv : Nat → Int32} (h : ls_TR R pl K rt N A M) (hp : ∀ n, pl n → n < 256)
    (hm : ls_MI R K (fun n => ∃ k, k ≤ N + 1 ∧ ls_iT R (rt k) n) 0 0 lv) (hr : ∀ k, k ≤ N + 1 → rt k ≠ 0 → lv (rt k) ≠ 0)
    (hp' : ∀ n, pl' n ↔ (pl n ∧ lv n ≠ 0)) (hR : ∀ n w, w < 4 → (n = 0 ∨ pl' n) → R' n w = R n w) : ls_TR R' pl' K rt N A M ∧ ls_CV R' pl' rt N := by
  obtain ⟨hc, hv, hs, hk⟩ := h
  have n0 : ∀ n, pl n → n ≠ 0 := fun n hn z => hc.2.1 (z ▸ hn)
  have c1 : ∀ n, pl' n → K n = 1 → ∀ f, f < 8 → ls_ino R n f = 0 ∨ (pl' (ls_ino R n f) ∧ K (ls_ino R n f) = 2) := by
    intro n hn k1 f hf
    have hn' := (hp' n).mp hn
    rcases hc.2.2.1 n hn'.1 k1 f hf with z | z
    · exact Or.inl z
    · rcases (hm n (hp n hn'.1) (n0 n hn'.1) hn'.2).2.1 (n0 n hn'.1) k1 f hf with y | y
      · exact Or.inl y
      · exact Or.inr ⟨(hp' _).mpr ⟨z.1, y⟩, z.2⟩
  have c2 : ∀ n, pl' n → K n = 2 → ∀ b, b < 4 → ls_dat R n b = 0 ∨ (pl' (ls_dat R n b) ∧ K (ls_dat R n b) = 3) := by
    intro n hn k1 b hb
    have hn' := (hp' n).mp hn
    rcases hc.2.2.2 n hn'.1 k1 b hb with z | z
    · exact Or.inl z
    · rcases (hm n (hp n hn'.1) (n0 n hn'.1) hn'.2).2.2 (n0 n hn'.1) k1 b hb with y | y
      · exact Or.inl y
      · exact Or.inr ⟨(hp' _).mpr ⟨z.1, y⟩, z.2⟩
  have hcZ : ls_HC R pl' K := ⟨hc.1, fun z => hc.2.1 ((hp' 0).mp z).1, c1, c2⟩
  have rZ : ∀ k, k ≤ N + 1 → ls_RO pl' K (rt k) := by
    intro k hk'
    rcases (hv k hk').1 with z | z
    · exact Or.inl z
    · exact Or.inr ⟨(hp' _).mpr ⟨z.1, hr k hk' (n0 _ z.1)⟩, z.2⟩
  have hcR' : ls_HC R' pl' K := by
    refine ⟨fun w hw => by rw [hR 0 w hw (Or.inl rfl)]; exact hc.1 w hw, hcZ.2.1, fun n hn k1 f hf => ?_, fun n hn k1 b hb => ?_⟩
    · rw [ls_agI hR (Or.inr hn) hf]; exact c1 n hn k1 f hf
    · rw [ls_agD hR (Or.inr hn)]; exact c2 n hn k1 b hb
  have tZ : ls_TR R pl' K rt N A M := by
    refine ⟨hcZ, fun k hk' => ⟨rZ k hk', fun f hf => ?_⟩, hs, hk⟩
    have a := (hv k hk').2 f hf
    have hi := ls_HCi hcZ (rZ k hk') hf
    refine ⟨hi, a.2.1, fun b hb => ⟨ls_HCd hcZ (rZ k hk') hf hb, (a.2.2.1 b hb).2⟩, a.2.2.2⟩
  refine ⟨ls_agR hR (fun n hn => ⟨hn, rfl⟩) tZ hcR', fun n hn => ?_⟩
  have hn' := (hp' n).mp hn
  obtain ⟨k, hk', hT⟩ := (hm n (hp n hn'.1) (n0 n hn'.1) hn'.2).1
  exact ⟨k, hk', (ls_agT hR hcZ (rZ k hk')).mpr hT⟩
section
variable {sF sC sH sV fl bl tl mo : Int32} {D : Nat → Int32} {R : Nat → Nat → Int32} {pl : Nat → Prop} {K : Nat → Nat} {u : SX}
theorem ls_xSweep {post : SX → Prop} {t p n0 hp : Nat} {rt : Nat → Nat} {A : Nat → Nat → ls_FR} {M : Nat → Nat × Nat} (h : ls_HX sF sC sH sV fl bl tl (nI t) (nI p) (nI n0) mo (ls_f (fun j => rt (j + 2))) D R pl 0 u) (hN : t + p ≤ 24) (hn0 : n0 ≤ 1) (e1 : D (4 * (1 + n0)) = nI (rt 1)) (e0 : D (4 * (2 - n0)) = nI (rt 0)) (eh : D (4 * (2 - n0) + 1) = nI hp) (hp2 : hp < 2) (h0 : hp = 0 → rt 0 = 0)
    (hT : ls_TR R pl K rt (t + p) A M)
    (k : ∀ u' R' pl', ls_HX sF sC sH sV fl bl tl (nI t) (nI p) (nI n0) mo (ls_f (fun j => rt (j + 2))) D R' pl' 0 u' → ls_TR R' pl' K rt (t + p) A M → ls_CV R' pl' rt (t + p) → post u') : wpX_sweep post u := by
  have hpl := ls_HXp h
  refine ls_HXe (Q := fun u => wpX_sweep post u) h ?_
  intro ln fs hd hu vi vs dk P lv S V g b
  have hh : ∀ lv, ls_HX sF sC sH sV fl bl tl (nI t) (nI p) (nI n0) mo (ls_f (fun j => rt (j + 2))) D R pl 0 (sF, sC, sH, sV, fl, bl, tl, (nI ln), (nI fs), (nI hd), (nI hu), (nI vi), (nI vs), (nI t), (nI p), (nI n0), mo, dk, (ls_f P), lv, (ls_f S), (ls_f V), (ls_f (fun j => rt (j + 2)))) := fun lv => ⟨_, _, _, _, _, _, _, _, _, _, _, rfl, g, b⟩
  unfold wpX_sweep wpX_markLive
  refine ⟨257, ls_xLive2 (K := K) (Y := fun n => ∃ k, k ≤ t + p + 1 ∧ ls_iT R (rt k) n) hN hh hn0 e1 e0 eh hp2 h0 hT.1 (fun k hk => (hT.2.1 k hk).1) (fun k n hk hi => ⟨k, hk, hi⟩) (fun lv hm hr => ?_) 256 0 257 lv (by omega) (by omega) (fun j hj => by omega)⟩
  refine ⟨256, ls_xSweep6 (P0 := P) (fun fs' vi' P' S' V' h' hl' hP' => ?_) 255 1 256 P V (by omega) (by omega) (by omega) g.1 g.2.1 (fun n _ => Or.inl ⟨rfl, fun a b c => by omega⟩)⟩
  have hp' : ∀ n, ls_pl P' n ↔ (pl n ∧ lv n ≠ 0) := by
    intro n
    rw [← g.2.2.2.1]
    constructor
    · rintro ⟨a, c⟩
      have n0 : n ≠ 0 := by intro z; subst z; exact c h'.2.2.2.2.1
      rcases hP' n a with z | z
      · exact ⟨⟨a, by rw [← z.1]; exact c⟩, z.2 n0 c⟩
      · exact absurd z.1 c
    · rintro ⟨⟨a, c⟩, d⟩
      rcases hP' n a with z | z
      · exact ⟨a, by rw [z.1]; exact c⟩
      · exact absurd z.2 d
  have hR' : ∀ n w, w < 4 → (n = 0 ∨ ls_pl P' n) → ls_rd dk P' n w = R n w := by
    intro n w hw hn
    rw [← g.2.2.1]
    rcases hn with z | z
    · subst z
      rw [ls_rdE (by omega) hw, ls_rdE (by omega) hw, h'.2.2.2.2.1, g.1.2.2.2.2.1]
    · rw [ls_rdE z.1 hw, ls_rdE z.1 hw]
      rcases hP' n z.1 with y | y
      · rw [y.1]
      · exact absurd y.1 z.2
  have w := ls_swT hT (fun n hn => (hpl n hn).1) hm hr hp' hR'
  exact k _ _ _ ⟨_, _, _, _, _, _, _, _, _, _, _, rfl, ⟨h', hl', rfl, rfl, g.2.2.2.2⟩, Or.inl rfl⟩ w.1 w.2
end
end
section
/-! ===== the abstract state: files, blocks, tail limits; tail, pending; previous; mounted; slots; concerns ===== -/
abbrev ls_C : Type := Nat × Nat × Nat × Nat × Nat × Nat × Nat × (Nat → Nat → ls_FR) × (Nat → Nat × Nat)
def ls_used (C : Nat → ls_FR) : Nat := ls_sm (fun f => ls_bf (C f).2.2.1) 8
def ls_CW : ls_C → Prop
  | (fl, bl, tl, t, p, hp, mo, A, M) => (2 ≤ fl ∧ fl ≤ 8 ∧ bl ≤ 24 ∧ tl ≤ 24 ∧ t + p ≤ tl ∧ hp < 2 ∧ mo < 2 ∧ (mo = 0 → p = 0)) ∧
    (∀ k, k ≤ t + p + 1 → ∀ f, f < 8 → ls_WF (A k f) ∧ (fl ≤ f → (A k f).1 = 0)) ∧ (∀ k, k ≤ t + p + 1 → ls_used (A k) ≤ bl) ∧ (∀ i, i < t + p → (M i).1 < 8 ∧ (M i).2 < 8)
def ls_op : ls_C → Nat → Nat → Nat → Nat → ls_FR → ls_FR → ls_C
  | (fl, bl, tl, t, p, hp, mo, A, M), a, b, x, y, xA, xB => (fl, bl, tl, t, p + 1, hp, mo, ls_add A (t + p) (ls_set (ls_set (A (t + p + 1)) a xA) b xB), ls_mad M (t + p) x y)
theorem ls_set_s {C : Nat → ls_FR} {a : Nat} {x : ls_FR} : ls_set C a x a = x := if_pos rfl
theorem ls_set_n {C : Nat → ls_FR} {a f : Nat} {x : ls_FR} (h : f ≠ a) : ls_set C a x f = C f := if_neg h
theorem ls_add_s {A : Nat → Nat → ls_FR} {N : Nat} {C : Nat → ls_FR} : ls_add A N C (N + 2) = C := if_pos rfl
theorem ls_add_n {A : Nat → Nat → ls_FR} {N k : Nat} {C : Nat → ls_FR} (h : k ≠ N + 2) : ls_add A N C k = A k := if_neg h
theorem ls_CWop {fl bl tl t p hp mo a b x y : Nat} {A : Nat → Nat → ls_FR} {M : Nat → Nat × Nat} {xA xB : ls_FR} (w : ls_CW (fl, bl, tl, t, p, hp, mo, A, M)) (hm : mo ≠ 0) (ht : t + p < tl) (ha : a < fl) (hb : b < fl) (wA : ls_WF xA) (wB : ls_WF xB) (hu : ls_used (ls_set (ls_set (A (t + p + 1)) a xA) b xB) ≤ bl) (hx : x < 8) (hy : y < 8) : ls_CW (ls_op (fl, bl, tl, t, p, hp, mo, A, M) a b x y xA xB) := by
  obtain ⟨⟨w1, w2, w3, w4, w5, w6, w7, w8⟩, v1, v2, v3⟩ := w
  refine ⟨⟨w1, w2, w3, w4, by omega, w6, w7, fun z => absurd z hm⟩, fun k hk f hf => ?_, fun k hk => ?_, fun i hi => ?_⟩
  · by_cases e : k = t + p + 2
    · subst e
      rw [ls_add_s]
      by_cases z1 : f = b
      · subst z1; rw [ls_set_s]; exact ⟨wB, fun z => by omega⟩
      · rw [ls_set_n z1]
        by_cases z2 : f = a
        · subst z2; rw [ls_set_s]; exact ⟨wA, fun z => by omega⟩
        · rw [ls_set_n z2]; exact v1 _ (by omega) f hf
    · rw [ls_add_n e]; exact v1 k (by omega) f hf
  · by_cases e : k = t + p + 2
    · subst e
      rw [ls_add_s]; exact hu
    · rw [ls_add_n e]; exact v2 k (by omega)
  · unfold ls_mad
    by_cases e : i = t + p
    · rw [if_pos e]; exact ⟨hx, hy⟩
    · rw [if_neg e]; exact v3 i (by omega)
theorem ls_used_set {C : Nat → ls_FR} {a : Nat} {x : ls_FR} (ha : a < 8) : ls_used (ls_set C a x) + ls_bf (C a).2.2.1 = ls_used C + ls_bf x.2.2.1 := by
  have h := ls_sm_up (F := fun f => ls_bf (C f).2.2.1) (a := a) (x := ls_bf x.2.2.1) 8 ha
  have e : ls_used (ls_set C a x) = ls_sm (ls_u (fun f => ls_bf (C f).2.2.1) a (ls_bf x.2.2.1)) 8 := by
    refine ls_sm_cg 8 (fun n _ => ?_)
    by_cases z : n = a
    · subst z; rw [ls_us, ls_set_s]
    · rw [ls_un z, ls_set_n z]
  rw [e]
  exact h
theorem ls_used_le {C : Nat → ls_FR} {a : Nat} (ha : a < 8) : ls_bf (C a).2.2.1 ≤ ls_used C := by
  have h : ls_used (ls_set C a (0, 0, 0, fun _ => 0)) + ls_bf (C a).2.2.1 = ls_used C + ls_bf 0 := ls_used_set (C := C) (x := (0, 0, 0, fun _ => 0)) ha
  have : ls_bf 0 = 0 := rfl
  omega
theorem ls_used_11 {C : Nat → ls_FR} {a : Nat} {x y : ls_FR} (h : x = y) : ls_set (ls_set C a x) a y = ls_set C a x := by
  subst h
  funext f
  by_cases z : f = a
  · subst z; rw [ls_set_s, ls_set_s]
  · rw [ls_set_n z]
/-! the records after an operation -/
def ls_rC (x : ls_FR) : ls_FR := (1, (x.2.1 + 1) % 16, 0, fun _ => 0)
def ls_rD (x : ls_FR) : ls_FR := (0, x.2.1, 0, fun _ => 0)
def ls_nz (s y : Nat) : Nat := if y < s then s else y + 1
def ls_rW (x : ls_FR) (y : Nat) (v : Int32) : ls_FR := (1, x.2.1, ls_nz x.2.2.1 y, upd x.2.2.2 y v)
def ls_rT (x : ls_FR) (s : Nat) : ls_FR := (1, (if s = 0 then (x.2.1 + 1) % 16 else x.2.1), s, fun y => if y < s then x.2.2.2 y else 0)
def ls_rM (o s : ls_FR) : ls_FR := (1, (o.2.1 + 1) % 16, s.2.2.1, s.2.2.2)
theorem ls_wC {x : ls_FR} : ls_WF (ls_rC x) := ⟨by show 1 < 2; omega, Nat.mod_lt _ (by decide), Nat.zero_le _, fun z => rfl, fun _ _ => rfl⟩
theorem ls_wD {x : ls_FR} (h : ls_WF x) : ls_WF (ls_rD x) := ⟨by show 0 < 2; omega, h.2.1, Nat.zero_le _, fun z => rfl, fun _ _ => rfl⟩
theorem ls_wW {x : ls_FR} {y : Nat} {v : Int32} (h : ls_WF x) (hy : y < 16) : ls_WF (ls_rW x y v) := by
  have h3 := h.2.2.1
  refine ⟨by show 1 < 2; omega, h.2.1, ?_, fun z => absurd z (by show ¬ (1 : Nat) = 0; omega), fun j hj => ?_⟩
  · show ls_nz x.2.2.1 y ≤ 16
    unfold ls_nz
    split <;> omega
  · have hj' : ls_nz x.2.2.1 y ≤ j := hj
    show upd x.2.2.2 y v j = 0
    unfold ls_nz at hj'
    have : j ≠ y ∧ x.2.2.1 ≤ j := by split at hj' <;> omega
    rw [pk_un this.1]
    exact h.2.2.2.2 j this.2
theorem ls_wT {x : ls_FR} {s : Nat} (h : ls_WF x) (hs : s ≤ 16) : ls_WF (ls_rT x s) := by
  refine ⟨by show 1 < 2; omega, ?_, hs, fun z => absurd z (by show ¬ (1 : Nat) = 0; omega), fun j hj => ?_⟩
  · show (if s = 0 then (x.2.1 + 1) % 16 else x.2.1) < 16
    split
    · exact Nat.mod_lt _ (by decide)
    · exact h.2.1
  · have hj' : s ≤ j := hj
    exact if_neg (by omega)
theorem ls_wM {o s : ls_FR} (h : ls_WF s) : ls_WF (ls_rM o s) := ⟨by show 1 < 2; omega, Nat.mod_lt _ (by decide), h.2.2.1, fun z => absurd z (by show ¬ (1 : Nat) = 0; omega), h.2.2.2.2⟩
/-! the methods on the abstract state -/
def ls_c1 : ls_C → Int32 → (Nat → Int32 × ls_C) → Int32 × ls_C
  | (fl, bl, tl, t, p, hp, mo, A, M), x, F => if mo = 0 then (-1, (fl, bl, tl, t, p, hp, mo, A, M)) else if x < 0 ∨ nI fl ≤ x then (-2, (fl, bl, tl, t, p, hp, mo, A, M)) else F x.toNatClampNeg
def ls_c2 : ls_C → Int32 → Int32 → (Nat → Nat → Int32 × ls_C) → Int32 × ls_C
  | (fl, bl, tl, t, p, hp, mo, A, M), x, y, F => if mo = 0 then (-1, (fl, bl, tl, t, p, hp, mo, A, M)) else if x < 0 ∨ nI fl ≤ x then (-2, (fl, bl, tl, t, p, hp, mo, A, M)) else if y < 0 ∨ nI fl ≤ y then (-2, (fl, bl, tl, t, p, hp, mo, A, M)) else F x.toNatClampNeg y.toNatClampNeg
def ls_fCreate : ls_C → Nat → Int32 × ls_C
  | (fl, bl, tl, t, p, hp, mo, A, M), f => if (A (t + p + 1) f).1 = 0 then (if tl ≤ t + p then (-7, (fl, bl, tl, t, p, hp, mo, A, M)) else (0, ls_op (fl, bl, tl, t, p, hp, mo, A, M) f f f f (ls_rC (A (t + p + 1) f)) (ls_rC (A (t + p + 1) f)))) else (-4, (fl, bl, tl, t, p, hp, mo, A, M))
def ls_fRemove : ls_C → Nat → Int32 × ls_C
  | (fl, bl, tl, t, p, hp, mo, A, M), f => if (A (t + p + 1) f).1 = 0 then (-3, (fl, bl, tl, t, p, hp, mo, A, M)) else if tl ≤ t + p then (-7, (fl, bl, tl, t, p, hp, mo, A, M)) else (0, ls_op (fl, bl, tl, t, p, hp, mo, A, M) f f f f (ls_rD (A (t + p + 1) f)) (ls_rD (A (t + p + 1) f)))
def ls_fWrite : ls_C → Int32 → Int32 → Nat → Int32 × ls_C
  | (fl, bl, tl, t, p, hp, mo, A, M), y, v, f => if (A (t + p + 1) f).1 = 0 then (-3, (fl, bl, tl, t, p, hp, mo, A, M)) else if y < 0 ∨ 16 ≤ y then (-5, (fl, bl, tl, t, p, hp, mo, A, M))
    else if bl < ls_used (ls_set (A (t + p + 1)) f (ls_rW (A (t + p + 1) f) y.toNatClampNeg v)) then (-6, (fl, bl, tl, t, p, hp, mo, A, M)) else if tl ≤ t + p then (-7, (fl, bl, tl, t, p, hp, mo, A, M))
    else (0, ls_op (fl, bl, tl, t, p, hp, mo, A, M) f f f f (ls_rW (A (t + p + 1) f) y.toNatClampNeg v) (ls_rW (A (t + p + 1) f) y.toNatClampNeg v))
def ls_fTrunc : ls_C → Int32 → Nat → Int32 × ls_C
  | (fl, bl, tl, t, p, hp, mo, A, M), y, f => if (A (t + p + 1) f).1 = 0 then (-3, (fl, bl, tl, t, p, hp, mo, A, M)) else if y < 0 ∨ ¬ y ≤ 16 then (-5, (fl, bl, tl, t, p, hp, mo, A, M))
    else if bl < ls_used (ls_set (A (t + p + 1)) f (ls_rT (A (t + p + 1) f) y.toNatClampNeg)) then (-6, (fl, bl, tl, t, p, hp, mo, A, M)) else if tl ≤ t + p then (-7, (fl, bl, tl, t, p, hp, mo, A, M))
    else (0, ls_op (fl, bl, tl, t, p, hp, mo, A, M) f f f f (ls_rT (A (t + p + 1) f) y.toNatClampNeg) (ls_rT (A (t + p + 1) f) y.toNatClampNeg))
def ls_fRename : ls_C → Nat → Nat → Int32 × ls_C
  | (fl, bl, tl, t, p, hp, mo, A, M), a, b => if (A (t + p + 1) a).1 = 0 then (-3, (fl, bl, tl, t, p, hp, mo, A, M)) else if a = b then (-8, (fl, bl, tl, t, p, hp, mo, A, M)) else if tl ≤ t + p then (-7, (fl, bl, tl, t, p, hp, mo, A, M))
    else (0, ls_op (fl, bl, tl, t, p, hp, mo, A, M) b a a b (ls_rM (A (t + p + 1) b) (A (t + p + 1) a)) (ls_rD (A (t + p + 1) a)))
def ls_fExch : ls_C → Nat → Nat → Int32 × ls_C
  | (fl, bl, tl, t, p, hp, mo, A, M), a, b => if (A (t + p + 1) a).1 = 0 then (-3, (fl, bl, tl, t, p, hp, mo, A, M)) else if (A (t + p + 1) b).1 = 0 then (-3, (fl, bl, tl, t, p, hp, mo, A, M)) else if a = b then (-8, (fl, bl, tl, t, p, hp, mo, A, M)) else if tl ≤ t + p then (-7, (fl, bl, tl, t, p, hp, mo, A, M))
    else (0, ls_op (fl, bl, tl, t, p, hp, mo, A, M) a b a b (ls_rM (A (t + p + 1) a) (A (t + p + 1) b)) (ls_rM (A (t + p + 1) b) (A (t + p + 1) a)))
def ls_mn (a b : Nat) : Nat := if b ≤ a then b else a
theorem ls_mn_le (a b : Nat) : ls_mn a b ≤ b := by unfold ls_mn; split <;> omega
def ls_fl : ls_C → Nat → Int32 × ls_C
  | (fl, bl, tl, t, p, hp, mo, A, M), k => (nI k, (fl, bl, tl, t + k, p - k, hp, mo, A, M))
def ls_cFlush : ls_C → Int32 → Int32 × ls_C
  | (fl, bl, tl, t, p, hp, mo, A, M), x => if mo = 0 then (-1, (fl, bl, tl, t, p, hp, mo, A, M)) else if x < 0 then (-9, (fl, bl, tl, t, p, hp, mo, A, M)) else ls_fl (fl, bl, tl, t, p, hp, mo, A, M) (ls_mn x.toNatClampNeg p)
def ls_la (M : Nat → Nat × Nat) (t f : Nat) : Nat → Nat
  | 0 => 0
  | j + 1 => if f ≠ (M (t + j)).1 ∧ f ≠ (M (t + j)).2 then ls_la M t f j else j + 1
theorem ls_la_le (M : Nat → Nat × Nat) (t f : Nat) : ∀ p, ls_la M t f p ≤ p := by
  intro p
  induction p with
  | zero => exact Nat.le_refl 0
  | succ p ih =>
    show (if f ≠ (M (t + p)).1 ∧ f ≠ (M (t + p)).2 then ls_la M t f p else p + 1) ≤ p + 1
    split <;> omega
def ls_fFsync : ls_C → Nat → Int32 × ls_C
  | (fl, bl, tl, t, p, hp, mo, A, M), f => ls_fl (fl, bl, tl, t, p, hp, mo, A, M) (ls_la M t f p)
def ls_cp2 (A : Nat → Nat → ls_FR) (C0 C1 : Nat → ls_FR) : Nat → Nat → ls_FR := fun k => if k = 0 then C0 else if k = 1 then C1 else A k
def ls_E0 : Nat → ls_FR := fun _ => (0, 0, 0, fun _ => 0)
def ls_cCheck : ls_C → Int32 × ls_C
  | (fl, bl, tl, t, p, hp, mo, A, M) => if mo = 0 then (-1, (fl, bl, tl, t, p, hp, mo, A, M)) else (nI (t + p), (fl, bl, tl, 0, 0, 1, mo, ls_cp2 A (A 1) (A (t + p + 1)), M))
def ls_cClean : ls_C → Int32 → Int32
  | (_, _, _, _, _, _, mo, _, _), x => if mo = 0 then -1 else if x < 0 then -9 else 0
def ls_cCrash : ls_C → Int32 → Int32 × ls_C
  | (fl, bl, tl, t, p, hp, mo, A, M), x => if mo = 0 then (-1, (fl, bl, tl, t, p, hp, mo, A, M)) else if x < 0 then (-9, (fl, bl, tl, t, p, hp, mo, A, M)) else (nI (ls_mn x.toNatClampNeg p), (fl, bl, tl, t + ls_mn x.toNatClampNeg p, 0, hp, 0, A, M))
def ls_cCIC : ls_C → Int32 × ls_C
  | (fl, bl, tl, t, p, hp, mo, A, M) => if mo = 0 then (-1, (fl, bl, tl, t, p, hp, mo, A, M)) else (nI (t + p), (fl, bl, tl, t + p, 0, 0, 0, ls_cp2 A ls_E0 (A 1), M))
def ls_cMount : ls_C → Int32 → Int32 → Int32 × ls_C
  | (fl, bl, tl, t, p, hp, mo, A, M), x, y => if mo = 0 then
      (if x = 0 then (if y < 0 then (-9, (fl, bl, tl, t, p, hp, mo, A, M)) else if ls_mn y.toNatClampNeg t = 0 then (0, (fl, bl, tl, 0, p, hp, 1, A, M)) else (nI (ls_mn y.toNatClampNeg t), (fl, bl, tl, 0, p, 1, 1, ls_cp2 A (A 1) (A (ls_mn y.toNatClampNeg t + 1)), M)))
      else if x = 1 then (if hp = 0 then (-12, (fl, bl, tl, t, p, hp, mo, A, M)) else if y < 0 then (-9, (fl, bl, tl, t, p, hp, mo, A, M)) else (0, (fl, bl, tl, 0, p, 0, 1, ls_cp2 A ls_E0 (A 0), M)))
      else (-11, (fl, bl, tl, t, p, hp, mo, A, M)))
    else (-10, (fl, bl, tl, t, p, hp, mo, A, M))
/-- the slot of a view -/
def ls_vw : ls_C → Int32 → Option Nat
  | (_, _, _, t, p, hp, _, _, _), v => if v = -1 then (if hp = 0 then none else some 0) else if v < 0 then none else if v ≤ nI (t + p) then some (v.toNatClampNeg + 1) else none
/-! the getters' answers -/
def ls_cSize : ls_C → Nat → Int32 → Int32
  | (fl, _, _, _, _, _, _, A, _), s, x => if x < 0 ∨ nI fl ≤ x then -2 else if (A s x.toNatClampNeg).1 = 0 then -3 else nI (A s x.toNatClampNeg).2.2.1
def ls_cGen : ls_C → Nat → Int32 → Int32
  | (fl, _, _, _, _, _, _, A, _), s, x => if x < 0 ∨ nI fl ≤ x then -2 else nI (A s x.toNatClampNeg).2.1
def ls_cWord : ls_C → Nat → Int32 → Int32 → Int32
  | (fl, _, _, _, _, _, _, A, _), s, x, y => if x < 0 ∨ nI fl ≤ x then 0 else if (A s x.toNatClampNeg).1 = 0 then 0 else if y < 0 then 0 else if y < nI (A s x.toNatClampNeg).2.2.1 then (A s x.toNatClampNeg).2.2.2 y.toNatClampNeg else 0
def ls_dgW (w : Nat → Int32) : Nat → Int32 → Int32
  | 0, h => h
  | n + 1, h => ls_dgW w n h * 31 + w n
def ls_dg1 (x : ls_FR) (h : Int32) : Int32 := if x.1 = 0 then (h * 31 + nI x.2.1) * 31 else ls_dgW x.2.2.2 x.2.2.1 ((h * 31 + nI x.2.1) * 31 + nI x.2.2.1 + 1)
def ls_dg (C : Nat → ls_FR) : Nat → Int32
  | 0 => 17
  | n + 1 => ls_dg1 (C n) (ls_dg C n)
/-! ===== the abstract state stays well formed ===== -/
section
variable {fl bl tl t p hp mo : Nat} {A : Nat → Nat → ls_FR} {M : Nat → Nat × Nat}
theorem ls_WE0 : ls_WF (0, 0, 0, fun _ => 0) := ⟨by show 0 < 2; omega, by show 0 < 16; omega, Nat.zero_le _, fun _ => rfl, fun _ _ => rfl⟩
theorem ls_UE0 : ls_used ls_E0 = 0 := rfl
theorem ls_CWfl (w : ls_CW (fl, bl, tl, t, p, hp, mo, A, M)) {k : Nat} (hk : k ≤ p) : ls_CW (ls_fl (fl, bl, tl, t, p, hp, mo, A, M) k).2 := by
  obtain ⟨⟨w1, w2, w3, w4, w5, w6, w7, w8⟩, v1, v2, v3⟩ := w
  show ls_CW (fl, bl, tl, t + k, p - k, hp, mo, A, M)
  exact ⟨⟨w1, w2, w3, w4, by omega, w6, w7, fun z => by have := w8 z; omega⟩, fun k hk => v1 k (by omega), fun k hk => v2 k (by omega), fun i hi => v3 i (by omega)⟩
theorem ls_CWcp {C0 C1 : Nat → ls_FR} {hp' : Nat} (w : ls_CW (fl, bl, tl, t, p, hp, mo, A, M)) (hp2 : hp' < 2) {t' p' mo' : Nat} (ht : t' + p' ≤ t + p) (hm : mo' < 2) (hmp : mo' = 0 → p' = 0)
    (h0 : ∀ f, f < 8 → ls_WF (C0 f) ∧ (fl ≤ f → (C0 f).1 = 0)) (h1 : ∀ f, f < 8 → ls_WF (C1 f) ∧ (fl ≤ f → (C1 f).1 = 0)) (u0 : ls_used C0 ≤ bl) (u1 : ls_used C1 ≤ bl) : ls_CW (fl, bl, tl, t', p', hp', mo', ls_cp2 A C0 C1, M) := by
  obtain ⟨⟨w1, w2, w3, w4, w5, w6, w7, w8⟩, v1, v2, v3⟩ := w
  refine ⟨⟨w1, w2, w3, w4, by omega, hp2, hm, hmp⟩, fun k hk f hf => ?_, fun k hk => ?_, fun i hi => v3 i (by omega)⟩
  · unfold ls_cp2
    by_cases z : k = 0
    · rw [if_pos z]; exact h0 f hf
    · rw [if_neg z]
      by_cases y : k = 1
      · rw [if_pos y]; exact h1 f hf
      · rw [if_neg y]; exact v1 k (by omega) f hf
  · unfold ls_cp2
    by_cases z : k = 0
    · rw [if_pos z]; exact u0
    · rw [if_neg z]
      by_cases y : k = 1
      · rw [if_pos y]; exact u1
      · rw [if_neg y]; exact v2 k (by omega)
theorem ls_CWcheck (w : ls_CW (fl, bl, tl, t, p, hp, mo, A, M)) : ls_CW (ls_cCheck (fl, bl, tl, t, p, hp, mo, A, M)).2 := by
  unfold ls_cCheck
  dsimp only
  split
  · exact w
  · exact ls_CWcp w (by omega) (by omega) w.1.2.2.2.2.2.2.1 (fun _ => rfl) (w.2.1 1 (by omega)) (w.2.1 _ (by omega)) (w.2.2.1 1 (by omega)) (w.2.2.1 _ (by omega))
theorem ls_CWcic (w : ls_CW (fl, bl, tl, t, p, hp, mo, A, M)) : ls_CW (ls_cCIC (fl, bl, tl, t, p, hp, mo, A, M)).2 := by
  unfold ls_cCIC
  dsimp only
  split
  · exact w
  · exact ls_CWcp w (by omega) (by omega) (by omega) (fun _ => rfl) (fun f _ => ⟨ls_WE0, fun _ => rfl⟩) (w.2.1 1 (by omega)) (by rw [ls_UE0]; omega) (w.2.2.1 1 (by omega))
theorem ls_CWcrash (w : ls_CW (fl, bl, tl, t, p, hp, mo, A, M)) (x : Int32) : ls_CW (ls_cCrash (fl, bl, tl, t, p, hp, mo, A, M) x).2 := by
  unfold ls_cCrash
  dsimp only
  split
  · exact w
  · split
    · exact w
    · have hk := ls_mn_le x.toNatClampNeg p
      obtain ⟨⟨w1, w2, w3, w4, w5, w6, w7, w8⟩, v1, v2, v3⟩ := w
      exact ⟨⟨w1, w2, w3, w4, by omega, w6, by omega, fun z => rfl⟩, fun k hk => v1 k (by omega), fun k hk => v2 k (by omega), fun i hi => v3 i (by omega)⟩
theorem ls_CWflush (w : ls_CW (fl, bl, tl, t, p, hp, mo, A, M)) (x : Int32) : ls_CW (ls_cFlush (fl, bl, tl, t, p, hp, mo, A, M) x).2 := by
  unfold ls_cFlush
  dsimp only
  split
  · exact w
  · split
    · exact w
    · exact ls_CWfl w (ls_mn_le _ _)
theorem ls_CWmount (w : ls_CW (fl, bl, tl, t, p, hp, mo, A, M)) (x y : Int32) : ls_CW (ls_cMount (fl, bl, tl, t, p, hp, mo, A, M) x y).2 := by
  have hk := ls_mn_le y.toNatClampNeg t
  unfold ls_cMount
  dsimp only
  split
  · split
    · split
      · exact w
      · split
        · obtain ⟨⟨w1, w2, w3, w4, w5, w6, w7, w8⟩, v1, v2, v3⟩ := w
          exact ⟨⟨w1, w2, w3, w4, by omega, w6, by omega, fun z => by omega⟩, fun k hk => v1 k (by omega), fun k hk => v2 k (by omega), fun i hi => v3 i (by omega)⟩
        · exact ls_CWcp w (by omega) (by omega) (by omega) (fun z => by omega) (w.2.1 1 (by omega)) (w.2.1 _ (by omega)) (w.2.2.1 1 (by omega)) (w.2.2.1 _ (by omega))
    · split
      · split
        · exact w
        · split
          · exact w
          · exact ls_CWcp w (by omega) (by omega) (by omega) (fun z => by omega) (fun f _ => ⟨ls_WE0, fun _ => rfl⟩) (w.2.1 0 (by omega)) (by rw [ls_UE0]; omega) (w.2.2.1 0 (by omega))
      · exact w
  · exact w
end
end
section
/-! ===== the log's results with the state's shape shown ===== -/
section
variable {sF sC sH sV fl bl tl tc pc np mo : Int32} {op : Nat → Int32} {D : Nat → Int32} {R : Nat → Nat → Int32} {pl : Nat → Prop} {q : Nat} {u : SX}
theorem ls_xRoomS {post : SX → Prop} (h : ls_HX sF sC sH sV fl bl tl tc pc np mo op D R pl 0 u) (hc : ls_cn pl 256 ≤ 138) (k : ∀ (ln fs hd hu vi vs : Int32) (dk pa lv ss sl : Nat → Int32), ls_HX sF sC sH sV fl bl tl tc pc np mo op D R pl 3 (sF, sC, sH, sV, fl, bl, tl, ln, fs, hd, hu, vi, vs, tc, pc, np, mo, dk, pa, lv, ss, sl, op) → post (sF, sC, sH, sV, fl, bl, tl, ln, fs, hd, hu, vi, vs, tc, pc, np, mo, dk, pa, lv, ss, sl, op)) : wpX_makeRoom post u :=
  ls_xMakeRoom h hc (fun u' h' => ls_HXs (Q := fun u => post u) h' k)
theorem ls_xAppendS {post : Int32 → SX → Prop} {w0 w1 w2 w3 : Int32} (h : ls_HX sF sC sH sV fl bl tl tc pc np mo op D R pl (q+1) u)
    (k : ∀ (g : Nat) (ln fs hd hu vi vs : Int32) (dk pa lv ss sl : Nat → Int32), 1 ≤ g → g < 256 → ¬ pl g → ls_HX sF sC sH sV fl bl tl tc pc np mo op D (ls_s4 R g w0 w1 w2 w3) (ls_ad pl g) q (sF, sC, sH, sV, fl, bl, tl, ln, fs, hd, hu, vi, vs, tc, pc, np, mo, dk, pa, lv, ss, sl, op) → post (nI g) (sF, sC, sH, sV, fl, bl, tl, ln, fs, hd, hu, vi, vs, tc, pc, np, mo, dk, pa, lv, ss, sl, op)) : wpX_append post u w0 w1 w2 w3 :=
  ls_xAppend h (fun g u' a b c h' => ls_HXs (Q := fun u => post (nI g) u) h' (fun ln fs hd hu vi vs dk pa lv ss sl h' => k g ln fs hd hu vi vs dk pa lv ss sl a b c h'))
theorem ls_xAppIS {post : Int32 → SX → Prop} {x pt : Int32} {p g s : Nat} {p1 p2 p3 : Int32} (h : ls_HX sF sC sH sV fl bl tl tc pc np mo op D R pl (q+1) u) (hp : p < 2) (hg : g < 16) (hs : s < 32)
    (k : ∀ (i : Nat) (ln fs hd hu vi vs : Int32) (dk pa lv ss sl : Nat → Int32), 1 ≤ i → i < 256 → ¬ pl i → ls_HX sF sC sH sV fl bl tl tc pc np mo op D (ls_s4 R i (nI (ls_hd p g s)) pt x 0) (ls_ad pl i) q (sF, sC, sH, sV, fl, bl, tl, ln, fs, hd, hu, vi, vs, tc, pc, np, mo, dk, pa, lv, ss, sl, op) → post (nI i) (sF, sC, sH, sV, fl, bl, tl, ln, fs, hd, hu, vi, vs, tc, pc, np, mo, dk, pa, lv, ss, sl, op)) (e1 : p1 = nI p := by rfl) (e2 : p2 = nI g := by rfl) (e3 : p3 = nI s := by rfl) : wpX_appendInode post u x p1 p2 p3 pt :=
  ls_xAppI h hp hg hs (fun g u' a b c h' => ls_HXs (Q := fun u => post (nI g) u) h' (fun ln fs hd hu vi vs dk pa lv ss sl h' => k g ln fs hd hu vi vs dk pa lv ss sl a b c h')) e1 e2 e3
theorem ls_xMovedS {post : Int32 → SX → Prop} {x : Int32} {o s p1 g1 s1 p2 g2 s2 : Nat} (h : ls_HX sF sC sH sV fl bl tl tc pc np mo op D R pl (q+1) u) (ho : o < 256) (hs : s < 256)
    (e1 : R o 0 = nI (ls_hd p1 g1 s1)) (hp1 : p1 < 2) (hg1 : g1 < 16) (hs1 : s1 < 32) (e2 : R s 0 = nI (ls_hd p2 g2 s2)) (hp2 : p2 < 2) (hg2 : g2 < 16) (hs2 : s2 < 32)
    (k : ∀ (i : Nat) (ln fs hd hu vi vs : Int32) (dk pa lv ss sl : Nat → Int32), 1 ≤ i → i < 256 → ¬ pl i → ls_HX sF sC sH sV fl bl tl tc pc np mo op D (ls_s4 R i (nI (ls_hd 1 ((g1 + 1) % 16) s2)) (R s 1) x 0) (ls_ad pl i) q (sF, sC, sH, sV, fl, bl, tl, ln, fs, hd, hu, vi, vs, tc, pc, np, mo, dk, pa, lv, ss, sl, op) → post (nI i) (sF, sC, sH, sV, fl, bl, tl, ln, fs, hd, hu, vi, vs, tc, pc, np, mo, dk, pa, lv, ss, sl, op)) : wpX_appendMoved post u x (nI o) (nI s) :=
  ls_xMoved h ho hs e1 hp1 hg1 hs1 e2 hp2 hg2 hs2 (fun g u' a b c h' => ls_HXs (Q := fun u => post (nI g) u) h' (fun ln fs hd hu vi vs dk pa lv ss sl h' => k g ln fs hd hu vi vs dk pa lv ss sl a b c h'))
end
/-! ===== the component against the abstract state ===== -/
def ls_DD (D : Nat → Int32) (np hp : Nat) (rt : Nat → Nat) : Prop :=
  np ≤ 1 ∧ (∀ w, w < 4 → D w = 0) ∧ D (4 * (1 + np)) = nI (rt 1) ∧ D (4 * (1 + np) + 1) = 1 ∧ D (4 * (2 - np)) = nI (rt 0) ∧ D (4 * (2 - np) + 1) = nI hp ∧ (hp = 0 → rt 0 = 0)
def ls_RX : ls_C → SX → Prop
  | (fl, bl, tl, t, p, hp, mo, A, M), u => ∃ (sF sC sH sV : Int32) (np : Nat) (D : Nat → Int32) (R : Nat → Nat → Int32) (pl : Nat → Prop) (K rt : Nat → Nat), ls_HX sF sC sH sV (nI fl) (nI bl) (nI tl) (nI t) (nI p) (nI np) (nI mo) (ls_f (fun j => rt (j + 2))) D R pl 0 u ∧ ls_DD D np hp rt ∧ ls_TR R pl K rt (t + p) A M ∧ ls_CV R pl rt (t + p)
section
variable {fl bl tl t p hp mo : Nat} {A : Nat → Nat → ls_FR} {M : Nat → Nat × Nat} {u : SX}
theorem ls_RXe {Q : SX → Prop} (h : ls_RX (fl, bl, tl, t, p, hp, mo, A, M) u) (k : ∀ (sF sC sH sV : Int32) (np : Nat) (D : Nat → Int32) (R : Nat → Nat → Int32) (pl : Nat → Prop) (K rt : Nat → Nat) (ln fs hd hu vi vs : Int32) (dk pa lv ss sl : Nat → Int32), ls_HX sF sC sH sV (nI fl) (nI bl) (nI tl) (nI t) (nI p) (nI np) (nI mo) (ls_f (fun j => rt (j + 2))) D R pl 0 (sF, sC, sH, sV, (nI fl), (nI bl), (nI tl), ln, fs, hd, hu, vi, vs, (nI t), (nI p), (nI np), (nI mo), dk, pa, lv, ss, sl, (ls_f (fun j => rt (j + 2)))) → ls_DD D np hp rt → ls_TR R pl K rt (t + p) A M → ls_CV R pl rt (t + p) → ls_RX (fl, bl, tl, t, p, hp, mo, A, M) (sF, sC, sH, sV, (nI fl), (nI bl), (nI tl), ln, fs, hd, hu, vi, vs, (nI t), (nI p), (nI np), (nI mo), dk, pa, lv, ss, sl, (ls_f (fun j => rt (j + 2)))) → Q (sF, sC, sH, sV, (nI fl), (nI bl), (nI tl), ln, fs, hd, hu, vi, vs, (nI t), (nI p), (nI np), (nI mo), dk, pa, lv, ss, sl, (ls_f (fun j => rt (j + 2))))) : Q u := by
  obtain ⟨sF, sC, sH, sV, np, D, R, pl, K, rt, h, hD, hT, hC⟩ := h
  refine ls_HXs h (fun ln fs hd hu vi vs dk pa lv ss sl h => ?_)
  exact k sF sC sH sV np D R pl K rt ln fs hd hu vi vs dk pa lv ss sl h hD hT hC ⟨sF, sC, sH, sV, np, D, R, pl, K, rt, h, hD, hT, hC⟩
end
section
variable {sF sC sH sV : Int32} {fl bl tl t p hp mo np q : Nat} {A : Nat → Nat → ls_FR} {M : Nat → Nat × Nat} {u : SX} {D : Nat → Int32} {R : Nat → Nat → Int32} {pl : Nat → Prop} {K rt : Nat → Nat}
theorem ls_xBad {post : Int32 → Prop} {x : Int32} (h : ls_HX sF sC sH sV (nI fl) (nI bl) (nI tl) (nI t) (nI p) (nI np) (nI mo) (ls_f (fun j => rt (j + 2))) D R pl q u) (hf : fl ≤ 8) (kb : (x < 0 ∨ nI fl ≤ x) → post 1) (kg : ∀ f, x = nI f → f < fl → post 0) : wpX_badFile post u x := by
  refine ls_HXs (Q := fun u => wpX_badFile post u x) h ?_
  intro ln fs hd hu vi vs dk pa lv ss sl h
  unfold wpX_badFile
  refine br_c (fun z => kb (Or.inl z)) (fun z => ?_)
  obtain ⟨j, hj, rfl⟩ := nI_of z
  exact pk_lt j fl (fun y => kg j rfl y) (fun y => kb (Or.inr (nI_le y hj))) rfl rfl hj (by omega)
theorem ls_xFull {post : Int32 → Prop} (h : ls_HX sF sC sH sV (nI fl) (nI bl) (nI tl) (nI t) (nI p) (nI np) (nI mo) (ls_f (fun j => rt (j + 2))) D R pl q u) (ht : t + p ≤ 24) (hl : tl ≤ 24) (k0 : t + p < tl → post 0) (k1 : tl ≤ t + p → post 1) : wpX_logFull post u := by
  refine ls_HXs (Q := fun u => wpX_logFull post u) h ?_
  intro ln fs hd hu vi vs dk pa lv ss sl h
  unfold wpX_logFull
  exact pk_lt (t + p) tl k0 k1 (nI_add t p) rfl (by omega) (by omega)
theorem ls_xCur {post : Int32 → Prop} (h : ls_HX sF sC sH sV (nI fl) (nI bl) (nI tl) (nI t) (nI p) (nI np) (nI mo) (ls_f (fun j => rt (j + 2))) D R pl q u) (ht : t + p ≤ 24) (hD : ls_DD D np hp rt) (k : post (nI (rt (t + p + 1)))) : wpX_currentRoot post u := by
  refine ls_HXs (Q := fun u => wpX_currentRoot post u) h ?_
  intro ln fs hd hu vi vs dk pa lv ss sl h
  unfold wpX_currentRoot
  dsimp only
  rw [nI_add]
  exact ls_xView h hD.1 hD.2.2.1 ht k
theorem ls_rt2 (h : ls_HX sF sC sH sV (nI fl) (nI bl) (nI tl) (nI t) (nI p) (nI np) (nI mo) (ls_f (fun j => rt (j + 2))) D R pl q u) {r : Nat} (hr : ls_RO pl K r) : r < 256 := by
  rcases hr with z | z
  · omega
  · exact (ls_HXp h r z.1).1
/-- mounted, and a good file -/
theorem ls_pre1 {post : Int32 → SX → Prop} {F : Nat → Int32 × ls_C} {B : Prop} {x : Int32} (w : ls_CW (fl, bl, tl, t, p, hp, mo, A, M)) (h : ls_HX sF sC sH sV (nI fl) (nI bl) (nI tl) (nI t) (nI p) (nI np) (nI mo) (ls_f (fun j => rt (j + 2))) D R pl q u) (hX : ls_RX (fl, bl, tl, t, p, hp, mo, A, M) u)
    (k : ∀ u', ls_RX (ls_c1 (fl, bl, tl, t, p, hp, mo, A, M) x F).2 u' → post (ls_c1 (fl, bl, tl, t, p, hp, mo, A, M) x F).1 u')
    (kg : ∀ f, mo ≠ 0 → x = nI f → f < fl → (∀ u', ls_RX (F f).2 u' → post (F f).1 u') → B) :
    (nI mo = 0 → post (-1) u) ∧ (¬ nI mo = 0 → wpX_badFile (fun r => ((r = 0 → B) ∧ (¬ r = 0 → post (-2) u))) u x) := by
  have hm := w.1.2.2.2.2.2.2.1
  unfold ls_c1 at k
  dsimp only at k
  refine pk_eq mo 0 (fun z => ?_) (fun z => ?_) rfl rfl (by omega) (by decide)
  · rw [if_pos z] at k; exact k _ hX
  · rw [if_neg z] at k
    refine ls_xBad h w.1.2.1 (fun b => ?_) (fun f e hf => ?_)
    · rw [if_pos b] at k; exact br_f (by decide) (k _ hX)
    · subst e
      have hf8 : fl ≤ 8 := w.1.2.1
      rw [if_neg (by
        rintro (y | y)
        · exact nI_pos (by omega) y
        · exact nI_ge hf (by omega) y), nI_clamp (by omega)] at k
      exact br_t rfl (kg f z rfl hf k)
theorem ls_pre2 {post : Int32 → SX → Prop} {F : Nat → Nat → Int32 × ls_C} {B : Prop} {x y : Int32} (w : ls_CW (fl, bl, tl, t, p, hp, mo, A, M)) (h : ls_HX sF sC sH sV (nI fl) (nI bl) (nI tl) (nI t) (nI p) (nI np) (nI mo) (ls_f (fun j => rt (j + 2))) D R pl q u) (hX : ls_RX (fl, bl, tl, t, p, hp, mo, A, M) u)
    (k : ∀ u', ls_RX (ls_c2 (fl, bl, tl, t, p, hp, mo, A, M) x y F).2 u' → post (ls_c2 (fl, bl, tl, t, p, hp, mo, A, M) x y F).1 u')
    (kg : ∀ f g, mo ≠ 0 → x = nI f → f < fl → y = nI g → g < fl → (∀ u', ls_RX (F f g).2 u' → post (F f g).1 u') → B) :
    (nI mo = 0 → post (-1) u) ∧ (¬ nI mo = 0 → wpX_badFile (fun r => ((r = 0 → wpX_badFile (fun r => ((r = 0 → B) ∧ (¬ r = 0 → post (-2) u))) u y) ∧ (¬ r = 0 → post (-2) u))) u x) := by
  have hm := w.1.2.2.2.2.2.2.1
  have hf8 : fl ≤ 8 := w.1.2.1
  unfold ls_c2 at k
  dsimp only at k
  refine pk_eq mo 0 (fun z => ?_) (fun z => ?_) rfl rfl (by omega) (by decide)
  · rw [if_pos z] at k; exact k _ hX
  · rw [if_neg z] at k
    refine ls_xBad h w.1.2.1 (fun b => ?_) (fun f e hf => ?_)
    · rw [if_pos b] at k; exact br_f (by decide) (k _ hX)
    · subst e
      rw [if_neg (by
        rintro (y | y)
        · exact nI_pos (by omega) y
        · exact nI_ge hf (by omega) y), nI_clamp (by omega)] at k
      refine br_t rfl (ls_xBad h w.1.2.1 (fun b => ?_) (fun g e hg => ?_))
      · rw [if_pos b] at k; exact br_f (by decide) (k _ hX)
      · subst e
        rw [if_neg (by
          rintro (y | y)
          · exact nI_pos (by omega) y
          · exact nI_ge hg (by omega) y), nI_clamp (by omega)] at k
        exact br_t rfl (kg f g z rfl hf rfl hg k)
theorem ls_xWE {post : Int32 → Prop} (u : SX) {x : Int32} {h f i : Nat} {p1 : Int32} (hh : h < 2) (hf : f < 8) (k : post (ls_we x h f i)) (e1 : p1 = nI h := by rfl) : wpX_withEntry post u x p1 (nI f) (nI i) := by
  subst e1
  obtain ⟨sF, sC, sH, sV, fl', bl', tl', ln, fs, hd, hu, vi, vs, tc, pc, np', mo', dk, pa, lv, ss, sl, op⟩ := u
  unfold wpX_withEntry
  dsimp only
  rw [ls_sh2 (by omega)]
  unfold ls_we at k
  refine pk_eq (f / 4) h (fun z => ?_) (fun z => ?_) rfl rfl (by omega) (by omega)
  · rw [if_pos z] at k
    exact ls_xSB _ (i := f % 4) (v := i) (ls_a3 (by omega)) (by omega) rfl k
  · rw [if_neg z] at k; exact k
theorem ls_urt {N m : Nat} : upd (ls_f (fun j => rt (j + 2))) N (nI m) = ls_f (fun j => ls_u rt (N + 2) m (j + 2)) := by
  rw [ls_uf (x := m) rfl]
  congr 1
  funext j
  unfold ls_u
  by_cases z : j = N
  · rw [if_pos z, if_pos (by omega)]
  · rw [if_neg z, if_neg (by omega)]
theorem ls_xCommit {post : SX → Prop} {r a b iA iB : Nat} (h : ls_HX sF sC sH sV (nI fl) (nI bl) (nI tl) (nI t) (nI p) (nI np) (nI mo) (ls_f (fun j => rt (j + 2))) D R pl (q+1) u) (hr : r < 256) (ha : a < 8) (hb : b < 8) (ht : t + p < 24)
    (k : ∀ m u', 1 ≤ m → m < 256 → ¬ pl m → ls_HX sF sC sH sV (nI fl) (nI bl) (nI tl) (nI t) (nI (p + 1)) (nI np) (nI mo) (ls_f (fun j => ls_u rt (t + p + 2) m (j + 2))) D (ls_s4 R m (ls_we (ls_we (R r 0) 0 a iA) 0 b iB) (ls_we (ls_we (R r 1) 1 a iA) 1 b iB) (ls_mk a b) 0) (ls_ad pl m) q u' → post u') :
    wpX_commit post u (nI r) (nI a) (nI iA) (nI b) (nI iB) := by
  refine ls_HXs (Q := fun u => wpX_commit post u (nI r) (nI a) (nI iA) (nI b) (nI iB)) h ?_
  intro ln fs hd hu vi vs dk pa lv ss sl h
  unfold wpX_commit
  refine ls_xRead h hr (w := 0) (by omega) ?_
  refine ls_xWE _ (h := 0) (by omega) ha ?_
  refine ls_xWE _ (h := 0) (by omega) hb ?_
  refine ls_xRead h hr (w := 1) (by omega) ?_
  refine ls_xWE _ (h := 1) (by omega) ha ?_
  refine ls_xWE _ (h := 1) (by omega) hb ?_
  refine nm_e ?_
  refine ls_xAppendS h (fun m ln fs hd hu vi vs dk pa lv ss sl m1 m2 m3 h' => ?_)
  refine nm_r (nI_add t p) (br_f (nI_pos (by omega)) (br_f (nI_ge (b := 24) (by omega) (by decide)) ⟨vp_in_nI (by omega) (by decide), ?_⟩))
  rw [nI_clamp (by omega)]
  refine nm_r ls_urt (nm_r (nI_1 p) ?_)
  exact k m _ m1 m2 m3 (ls_HXf h')
theorem ls_fin {m : Nat} {R' : Nat → Nat → Int32} {pl' : Nat → Prop} {K' : Nat → Nat} {A' : Nat → Nat → ls_FR} {M' : Nat → Nat × Nat} (h : ls_HX sF sC sH sV (nI fl) (nI bl) (nI tl) (nI t) (nI (p + 1)) (nI np) (nI mo) (ls_f (fun j => ls_u rt (t + p + 2) m (j + 2))) D R' pl' q u) (hD : ls_DD D np hp rt)
    (hT : ls_TR R' pl' K' (ls_u rt (t + p + 2) m) (t + p + 1) A' M') (hC : ls_CV R' pl' (ls_u rt (t + p + 2) m) (t + p + 1)) : ls_RX (fl, bl, tl, t, p + 1, hp, mo, A', M') u := by
  refine ⟨sF, sC, sH, sV, np, D, R', pl', K', ls_u rt (t + p + 2) m, ls_HX0 h, ?_, hT, hC⟩
  unfold ls_DD at hD ⊢
  rw [ls_un (show 1 ≠ t + p + 2 by omega), ls_un (show 0 ≠ t + p + 2 by omega)]
  exact hD
/-- a new inode -/
theorem ls_apI {i pp g s : Nat} {pt x : Int32} {w : Nat → Int32} {N : Nat} (hT : ls_TR R pl K rt N A M) (i0 : i ≠ 0) (hi : ¬ pl i) (dp : ls_DP R pl K pt s w) :
    ls_TR (ls_s4 R i (nI (ls_hd pp g s)) pt x 0) (ls_ad pl i) (ls_u K i 2) rt N A M ∧ ls_NI (ls_s4 R i (nI (ls_hd pp g s)) pt x 0) (ls_ad pl i) (ls_u K i 2) i (pp, g, s, w) := by
  have ag := ls_adA (R := R) (w0 := nI (ls_hd pp g s)) (w1 := pt) (w2 := x) (w3 := 0) i0 hi
  have sub := ls_adS (K := K) (k := 2) hi
  refine ⟨ls_agR ag sub hT (ls_adH hT.1 i0 hi (fun z => by omega) (fun _ b hb => (dp.1 b hb).1)), Or.inr ⟨Or.inr rfl, ls_us⟩, ls_s40, ?_⟩
  rw [ls_s41]
  exact ls_agP ag sub dp
/-- a new data block -/
theorem ls_apD {d : Nat} {w0 w1 w2 w3 : Int32} {N : Nat} (hT : ls_TR R pl K rt N A M) (d0 : d ≠ 0) (hd : ¬ pl d) : ls_TR (ls_s4 R d w0 w1 w2 w3) (ls_ad pl d) (ls_u K d 3) rt N A M :=
  ls_agR (ls_adA d0 hd) (ls_adS hd) hT (ls_adH hT.1 d0 hd (fun z => by omega) (fun z => by omega))
theorem ls_apC {d : Nat} {w0 w1 w2 w3 : Int32} {N : Nat} {e1 : Nat} (hT : ls_TR R pl K rt N A M) (d0 : d ≠ 0) (hd : ¬ pl d) (cv : ∀ n, pl n → (∃ k, k ≤ N + 1 ∧ ls_iT R (rt k) n) ∨ n = e1) :
    ∀ n, ls_ad pl d n → (∃ k, k ≤ N + 1 ∧ ls_iT (ls_s4 R d w0 w1 w2 w3) (rt k) n) ∨ n = e1 ∨ n = d := by
  rintro n (z | z)
  · rcases cv n z with ⟨k, hk, y⟩ | y
    · exact Or.inl ⟨k, hk, (ls_agT (ls_adA d0 hd) hT.1 (hT.2.1 k hk).1).mpr y⟩
    · exact Or.inr (Or.inl y)
  · exact Or.inr (Or.inr z)
/-- one file: a new inode and a new map -/
theorem ls_tail1 {post2 : Int32 → SX → Prop} {f pp g s e : Nat} {pt : Int32} {w : Nat → Int32} {p1 p2 p3 : Int32} (h : ls_HX sF sC sH sV (nI fl) (nI bl) (nI tl) (nI t) (nI p) (nI np) (nI mo) (ls_f (fun j => rt (j + 2))) D R pl (q+2) u) (hD : ls_DD D np hp rt) (hT : ls_TR R pl K rt (t + p) A M)
    (cv : ∀ n, pl n → (∃ k, k ≤ t + p + 1 ∧ ls_iT R (rt k) n) ∨ n = e) (ht : t + p < 24) (hf : f < 8) (hpp : pp < 2) (hg : g < 16) (hs : s < 32) (dp : ls_DP R pl K pt s w)
    (sd : ∀ b, b < 4 → ls_gb pt b = 0 ∨ ls_iT R (rt (t + p + 1)) (ls_gb pt b) ∨ ls_gb pt b = e) (ce : e = 0 ∨ ∃ j, j < 4 ∧ e = ls_gb pt j)
    (k : ∀ i u', (∀ post3 : SX → Prop, (∀ u'', ls_RX (ls_op (fl, bl, tl, t, p, hp, mo, A, M) f f f f (pp, g, s, w) (pp, g, s, w)) u'' → post3 u'') → wpX_commit post3 u' (nI (rt (t + p + 1))) (nI f) (nI i) (nI f) (nI i)) → post2 (nI i) u')
    (e1 : p1 = nI pp := by rfl) (e2 : p2 = nI g := by rfl) (e3 : p3 = nI s := by rfl) : wpX_appendInode post2 u (nI f) p1 p2 p3 pt := by
  refine ls_xAppI (q := q + 1) h hpp hg hs (fun i u' i1 i2 i3 h' => ?_) e1 e2 e3
  have hr := (hT.2.1 (t + p + 1) (by omega)).1
  refine k i u' (fun post3 k3 => ?_)
  refine ls_xCommit h' (ls_rt2 h hr) hf hf ht (fun m u'' m1 m2 m3 h'' => k3 u'' ?_)
  have ap := ls_apI (pp := pp) (g := g) (x := nI f) hT (show i ≠ 0 by omega) i3 dp
  have ag := ls_adA (R := R) (w0 := nI (ls_hd pp g s)) (w1 := pt) (w2 := nI f) (w3 := 0) (show i ≠ 0 by omega) i3
  have hdat : ∀ b, ls_dat (ls_s4 R i (nI (ls_hd pp g s)) pt (nI f) 0) i b = ls_gb pt b := fun b => by unfold ls_dat; rw [ls_s41]
  have cv' := ls_apC (w0 := nI (ls_hd pp g s)) (w1 := pt) (w2 := nI f) (w3 := 0) hT (show i ≠ 0 by omega) i3 cv
  have sd' : ∀ j, j < 4 → ls_dat (ls_s4 R i (nI (ls_hd pp g s)) pt (nI f) 0) i j = 0 ∨ ls_iT (ls_s4 R i (nI (ls_hd pp g s)) pt (nI f) 0) (rt (t + p + 1)) (ls_dat (ls_s4 R i (nI (ls_hd pp g s)) pt (nI f) 0) i j) ∨ ls_dat (ls_s4 R i (nI (ls_hd pp g s)) pt (nI f) 0) i j = e := by
    intro j hj
    rw [hdat]
    rcases sd j hj with z | z | z
    · exact Or.inl z
    · exact Or.inr (Or.inl ((ls_agT ag hT.1 hr).mpr z))
    · exact Or.inr (Or.inr z)
  by_cases e0 : e = 0
  · have c := ls_commit (m := m) (a := f) (b := f) (iA := i) (iB := i) (e1 := i) (e2 := i) (x := f) (y := f) ap.1 (fun n hn => by
        rcases cv' n hn with z | z | z
        · exact Or.inl z
        · exact absurd (z.trans e0) (by rintro rfl; exact ap.1.1.2.1 hn)
        · exact Or.inr (Or.inl z)) (by omega) m3 hf hf i2 i2 ap.2 ap.2 (Or.inl rfl) (Or.inl rfl)
        (fun j hj => by rcases sd' j hj with z | z | z; exact Or.inl z; exact Or.inr (Or.inl z); exact Or.inl (z.trans e0))
        (fun j hj => by rcases sd' j hj with z | z | z; exact Or.inl z; exact Or.inr (Or.inl z); exact Or.inl (z.trans e0))
        (Or.inr (Or.inl rfl)) (Or.inr (Or.inl rfl)) (Or.inl ⟨rfl, rfl⟩)
    exact ls_fin h'' hD c.1 c.2
  · have ce' : ∃ j, j < 4 ∧ e = ls_dat (ls_s4 R i (nI (ls_hd pp g s)) pt (nI f) 0) i j := by
      rcases ce with z | ⟨j, hj, z⟩
      · exact absurd z e0
      · exact ⟨j, hj, by rw [hdat]; exact z⟩
    have c := ls_commit (m := m) (a := f) (b := f) (iA := i) (iB := i) (e1 := e) (e2 := i) (x := f) (y := f) ap.1 cv' (by omega) m3 hf hf i2 i2 ap.2 ap.2 (Or.inr rfl) (Or.inr rfl)
        (fun j hj => by rcases sd' j hj with z | z | z; exact Or.inl z; exact Or.inr (Or.inl z); exact Or.inr (Or.inr (Or.inl z)))
        (fun j hj => by rcases sd' j hj with z | z | z; exact Or.inl z; exact Or.inr (Or.inl z); exact Or.inr (Or.inr (Or.inl z)))
        (Or.inr (Or.inr ce')) (Or.inr (Or.inl rfl)) (Or.inl ⟨rfl, rfl⟩)
    exact ls_fin h'' hD c.1 c.2
end
end
section
/-! ===== the component's operations ===== -/
def ls_ch (j i : Nat) (v w : Int32) : Int32 := if j = i then v else w
section
variable {sF sC sH sV fl bl tl tc pc np mo : Int32} {op : Nat → Int32} {D : Nat → Int32} {R : Nat → Nat → Int32} {pl : Nat → Prop} {q : Nat} {u : SX}
theorem ls_xChanged {post : Int32 → SX → Prop} {d j : Nat} {v : Int32} (h : ls_HX sF sC sH sV fl bl tl tc pc np mo op D R pl (q+1) u) (hd : d < 256) (hj : j < 4)
    (k : ∀ (g : Nat) (ln fs hd hu vi vs : Int32) (dk pa lv ss sl : Nat → Int32), 1 ≤ g → g < 256 → ¬ pl g → ls_HX sF sC sH sV fl bl tl tc pc np mo op D (ls_s4 R g (ls_ch j 0 v (R d 0)) (ls_ch j 1 v (R d 1)) (ls_ch j 2 v (R d 2)) (ls_ch j 3 v (R d 3))) (ls_ad pl g) q (sF, sC, sH, sV, fl, bl, tl, ln, fs, hd, hu, vi, vs, tc, pc, np, mo, dk, pa, lv, ss, sl, op) → post (nI g) (sF, sC, sH, sV, fl, bl, tl, ln, fs, hd, hu, vi, vs, tc, pc, np, mo, dk, pa, lv, ss, sl, op)) : wpX_appendChanged post u (nI d) (nI j) v := by
  refine ls_HXs (Q := fun u => wpX_appendChanged post u (nI d) (nI j) v) h ?_
  intro ln fs hd' hu vi vs dk pa lv ss sl h
  unfold wpX_appendChanged
  rcases (by omega : j = 0 ∨ j = 1 ∨ j = 2 ∨ j = 3) with rfl | rfl | rfl | rfl
  · refine br_t rfl ?_
    unfold wX_appendChanged_14
    refine br_f (by decide) (ls_xRead h hd (w := 1) (by omega) ?_)
    unfold wX_appendChanged_31
    refine br_f (by decide) (ls_xRead h hd (w := 2) (by omega) ?_)
    unfold wX_appendChanged_48
    refine br_f (by decide) (ls_xRead h hd (w := 3) (by omega) ?_)
    exact ls_xAppendS h k
  · refine br_f (by decide) (ls_xRead h hd (w := 0) (by omega) ?_)
    unfold wX_appendChanged_14
    refine br_t rfl ?_
    unfold wX_appendChanged_31
    refine br_f (by decide) (ls_xRead h hd (w := 2) (by omega) ?_)
    unfold wX_appendChanged_48
    refine br_f (by decide) (ls_xRead h hd (w := 3) (by omega) ?_)
    exact ls_xAppendS h k
  · refine br_f (by decide) (ls_xRead h hd (w := 0) (by omega) ?_)
    unfold wX_appendChanged_14
    refine br_f (by decide) (ls_xRead h hd (w := 1) (by omega) ?_)
    unfold wX_appendChanged_31
    refine br_t rfl ?_
    unfold wX_appendChanged_48
    refine br_f (by decide) (ls_xRead h hd (w := 3) (by omega) ?_)
    exact ls_xAppendS h k
  · refine br_f (by decide) (ls_xRead h hd (w := 0) (by omega) ?_)
    unfold wX_appendChanged_14
    refine br_f (by decide) (ls_xRead h hd (w := 1) (by omega) ?_)
    unfold wX_appendChanged_31
    refine br_f (by decide) (ls_xRead h hd (w := 2) (by omega) ?_)
    unfold wX_appendChanged_48
    refine br_t rfl ?_
    exact ls_xAppendS h k
def ls_kp (n i : Nat) (w : Int32) : Int32 := if i < n then w else 0
theorem ls_xKeep {post : Int32 → SX → Prop} {d n : Nat} (h : ls_HX sF sC sH sV fl bl tl tc pc np mo op D R pl (q+1) u) (hd : d < 256) (n1 : 1 ≤ n) (n2 : n < 4)
    (k : ∀ (g : Nat) (ln fs hd hu vi vs : Int32) (dk pa lv ss sl : Nat → Int32), 1 ≤ g → g < 256 → ¬ pl g → ls_HX sF sC sH sV fl bl tl tc pc np mo op D (ls_s4 R g (ls_kp n 0 (R d 0)) (ls_kp n 1 (R d 1)) (ls_kp n 2 (R d 2)) (ls_kp n 3 (R d 3))) (ls_ad pl g) q (sF, sC, sH, sV, fl, bl, tl, ln, fs, hd, hu, vi, vs, tc, pc, np, mo, dk, pa, lv, ss, sl, op) → post (nI g) (sF, sC, sH, sV, fl, bl, tl, ln, fs, hd, hu, vi, vs, tc, pc, np, mo, dk, pa, lv, ss, sl, op)) : wpX_appendKeeping post u (nI d) (nI n) := by
  refine ls_HXs (Q := fun u => wpX_appendKeeping post u (nI d) (nI n)) h ?_
  intro ln fs hd' hu vi vs dk pa lv ss sl h
  unfold wpX_appendKeeping
  refine ls_xRead h hd (w := 0) (by omega) ?_
  rcases (by omega : n = 1 ∨ n = 2 ∨ n = 3) with rfl | rfl | rfl
  · refine br_t (by decide) ?_
    unfold wX_appendKeeping_22
    refine br_t (by decide) ?_
    exact ls_xAppendS h k
  · refine br_f (by decide) (ls_xRead h hd (w := 1) (by omega) ?_)
    unfold wX_appendKeeping_22
    refine br_t (by decide) ?_
    exact ls_xAppendS h k
  · refine br_f (by decide) (ls_xRead h hd (w := 1) (by omega) ?_)
    unfold wX_appendKeeping_22
    refine br_f (by decide) (ls_xRead h hd (w := 2) (by omega) ?_)
    exact ls_xAppendS h k
theorem ls_xCut5 {post : Int32 → SX → Prop} {s : Nat} {pt : Int32} {ln fs hd hu vi vs : Int32} {dk pa lv ss sl : Nat → Int32} (h : ls_HX sF sC sH sV fl bl tl tc pc np mo op D R pl (q+1) (sF, sC, sH, sV, fl, bl, tl, ln, fs, hd, hu, vi, vs, tc, pc, np, mo, dk, pa, lv, ss, sl, op)) (hs : s < 16)
    (kA : ∀ r, (∀ j, j < 4 → ls_gb r j = if s ≤ 4 * j then 0 else ls_gb pt j) → (s % 4 = 0 ∨ ls_gb r (s / 4) = 0) → post r (sF, sC, sH, sV, fl, bl, tl, ln, fs, hd, hu, vi, vs, tc, pc, np, mo, dk, pa, lv, ss, sl, op))
    (kB : ∀ (r : Int32) (g : Nat) (ln fs hd hu vi vs : Int32) (dk pa lv ss sl : Nat → Int32), (∀ j, j < 4 → ls_gb r j = if s ≤ 4 * j then 0 else ls_gb pt j) → s % 4 ≠ 0 → ls_gb r (s / 4) ≠ 0 → 1 ≤ g → g < 256 → ¬ pl g → ls_HX sF sC sH sV fl bl tl tc pc np mo op D (ls_s4 R g (ls_kp (s % 4) 0 (R (ls_gb r (s / 4)) 0)) (ls_kp (s % 4) 1 (R (ls_gb r (s / 4)) 1)) (ls_kp (s % 4) 2 (R (ls_gb r (s / 4)) 2)) (ls_kp (s % 4) 3 (R (ls_gb r (s / 4)) 3))) (ls_ad pl g) q (sF, sC, sH, sV, fl, bl, tl, ln, fs, hd, hu, vi, vs, tc, pc, np, mo, dk, pa, lv, ss, sl, op) → post (ls_sb r (s / 4) g) (sF, sC, sH, sV, fl, bl, tl, ln, fs, hd, hu, vi, vs, tc, pc, np, mo, dk, pa, lv, ss, sl, op)) :
    ∀ d b n r, b + d = 4 → d < n → (∀ j, j < 4 → ls_gb r j = if j < b ∧ s ≤ 4 * j then 0 else ls_gb pt j) → wX_cutPointers_5 post (nI s) sF sC sH sV fl bl tl ln fs hd hu vi vs tc pc np mo dk pa lv ss sl op n r (nI b) := by
  intro d
  induction d with
  | zero =>
    intro b n r hb hn hr
    obtain ⟨n, rfl⟩ : ∃ n', n = n' + 1 := ⟨n - 1, by omega⟩
    obtain rfl : b = 4 := by omega
    have hr' : ∀ j, j < 4 → ls_gb r j = if s ≤ 4 * j then 0 else ls_gb pt j := by
      intro j hj
      rw [hr j hj]
      by_cases z : s ≤ 4 * j
      · rw [if_pos z, if_pos ⟨hj, z⟩]
      · rw [if_neg z, if_neg (fun y => z y.2)]
    refine br_t (nI_le (a := 4) (by omega) (by decide)) (nm_r (ls_a3 (by omega)) ?_)
    refine pk_eq (s % 4) 0 (fun z => kA r hr' (Or.inl z)) (fun z => ?_) rfl rfl (by omega) (by decide)
    refine nm_r (ls_sh2 (by omega)) ?_
    refine ls_xGB _ (i := s / 4) rfl (by omega) ?_
    have hl := ls_gb_lt r (s / 4)
    refine pk_eq (ls_gb r (s / 4)) 0 (fun y => kA r hr' (Or.inr y)) (fun y => ?_) rfl rfl (by omega) (by decide)
    refine ls_xKeep h hl (by omega) (by omega) (fun g ln fs hd hu vi vs dk pa lv ss sl g1 g2 g3 h' => ?_)
    exact ls_xSB _ (i := s / 4) (v := g) rfl (by omega) rfl (kB r g ln fs hd hu vi vs dk pa lv ss sl hr' z y g1 g2 g3 h')
  | succ d ih =>
    intro b n r hb hn hr
    obtain ⟨n, rfl⟩ : ∃ n', n = n' + 1 := ⟨n - 1, by omega⟩
    refine br_f (nI_ge (b := 4) (by omega) (by decide)) ?_
    rw [ls_4]
    refine pk_lt (4 * b) s (fun z => ?_) (fun z => ?_) rfl rfl (by omega) (by omega)
    · refine nm_r (nI_1 b) (ih (b + 1) n r (by omega) (by omega) (fun j hj => ?_))
      rw [hr j hj]
      by_cases y : j < b ∧ s ≤ 4 * j
      · rw [if_pos y, if_pos (by omega)]
      · rw [if_neg y, if_neg (by omega)]
    · refine ls_xSB _ (i := b) (v := 0) rfl (by omega) rfl ?_
      refine nm_r (nI_1 b) (ih (b + 1) n _ (by omega) (by omega) (fun j hj => ?_))
      rw [ls_gbs _ (by omega) hj (by omega), hr j hj]
      by_cases e : j = b
      · rw [if_pos e, if_pos (by omega)]
      · rw [if_neg e]
        by_cases y : j < b ∧ s ≤ 4 * j
        · rw [if_pos y, if_pos (by omega)]
        · rw [if_neg y, if_neg (by omega)]
theorem ls_xCut {post : Int32 → SX → Prop} {s : Nat} {pt : Int32} {ln fs hd hu vi vs : Int32} {dk pa lv ss sl : Nat → Int32} (h : ls_HX sF sC sH sV fl bl tl tc pc np mo op D R pl (q+1) (sF, sC, sH, sV, fl, bl, tl, ln, fs, hd, hu, vi, vs, tc, pc, np, mo, dk, pa, lv, ss, sl, op)) (hs : s < 16)
    (kA : ∀ r, (∀ j, j < 4 → ls_gb r j = if s ≤ 4 * j then 0 else ls_gb pt j) → (s % 4 = 0 ∨ ls_gb r (s / 4) = 0) → post r (sF, sC, sH, sV, fl, bl, tl, ln, fs, hd, hu, vi, vs, tc, pc, np, mo, dk, pa, lv, ss, sl, op))
    (kB : ∀ (r : Int32) (g : Nat) (ln fs hd hu vi vs : Int32) (dk pa lv ss sl : Nat → Int32), (∀ j, j < 4 → ls_gb r j = if s ≤ 4 * j then 0 else ls_gb pt j) → s % 4 ≠ 0 → ls_gb r (s / 4) ≠ 0 → 1 ≤ g → g < 256 → ¬ pl g → ls_HX sF sC sH sV fl bl tl tc pc np mo op D (ls_s4 R g (ls_kp (s % 4) 0 (R (ls_gb r (s / 4)) 0)) (ls_kp (s % 4) 1 (R (ls_gb r (s / 4)) 1)) (ls_kp (s % 4) 2 (R (ls_gb r (s / 4)) 2)) (ls_kp (s % 4) 3 (R (ls_gb r (s / 4)) 3))) (ls_ad pl g) q (sF, sC, sH, sV, fl, bl, tl, ln, fs, hd, hu, vi, vs, tc, pc, np, mo, dk, pa, lv, ss, sl, op) → post (ls_sb r (s / 4) g) (sF, sC, sH, sV, fl, bl, tl, ln, fs, hd, hu, vi, vs, tc, pc, np, mo, dk, pa, lv, ss, sl, op)) :
    wpX_cutPointers post (sF, sC, sH, sV, fl, bl, tl, ln, fs, hd, hu, vi, vs, tc, pc, np, mo, dk, pa, lv, ss, sl, op) pt (nI s) := by
  unfold wpX_cutPointers
  exact ⟨5, ls_xCut5 h hs kA kB 4 0 5 pt (by omega) (by omega) (fun j hj => by rw [if_neg (by omega)])⟩
end
/-! ===== pointer words after an operation ===== -/
section
variable {R : Nat → Nat → Int32} {pl : Nat → Prop} {K : Nat → Nat}
theorem ls_s4c {f : Nat → Int32} {d m : Nat} (hm : m < 4) : ls_s4 R d (f 0) (f 1) (f 2) (f 3) d m = f m := by
  rcases (by omega : m = 0 ∨ m = 1 ∨ m = 2 ∨ m = 3) with rfl | rfl | rfl | rfl
  · exact ls_s40
  · exact ls_s41
  · exact ls_s42
  · exact ls_s43
theorem ls_dp0 (h0 : ∀ w, w < 4 → R 0 w = 0) : ls_DP R pl K 0 0 (fun _ => 0) :=
  ⟨fun b _ => ⟨Or.inl (ls_gb0 b), fun _ => ls_gb0 b⟩, fun x _ => by rw [ls_gb0]; exact h0 _ (by omega)⟩
/-- a pointer word whose block j is the new block d -/
theorem ls_dpN {pt : Int32} {s s' d j : Nat} {w w' : Nat → Int32} {f : Nat → Int32} (dp : ls_DP R pl K pt s w) (d0 : d ≠ 0) (d2 : d < 256) (hd : ¬ pl d) (hj : j < 4) (hs : 4 * j < s') (hss : ∀ b, b < 4 → b ≠ j → s' ≤ 4 * b → ls_gb pt b = 0)
    (hw : ∀ x, x < 16 → x / 4 ≠ j → w' x = w x) (hf : ∀ x, x < 16 → x / 4 = j → f (x % 4) = w' x) :
    ls_DP (ls_s4 R d (f 0) (f 1) (f 2) (f 3)) (ls_ad pl d) (ls_u K d 3) (ls_sb pt j d) s' w' := by
  have ag := ls_adA (R := R) (w0 := f 0) (w1 := f 1) (w2 := f 2) (w3 := f 3) d0 hd
  have sub := ls_adS (K := K) (k := 3) hd
  have dp' := ls_agP ag sub dp
  refine ⟨fun b hb => ?_, fun x hx => ?_⟩
  · by_cases e : b = j
    · subst e
      rw [ls_gbs_s _ hb d2]
      exact ⟨Or.inr ⟨Or.inr rfl, ls_us⟩, fun z => by omega⟩
    · rw [ls_gbs_n _ hj hb d2 e]
      exact ⟨(dp'.1 b hb).1, hss b hb e⟩
  · by_cases e : x / 4 = j
    · rw [e, ls_gbs_s _ hj d2, ls_s4c (by omega)]
      exact hf x hx e
    · rw [ls_gbs_n _ hj (by omega) d2 e, dp'.2 x hx]
      exact (hw x hx e).symm
theorem ls_dpW {pt : Int32} {s d y : Nat} {v : Int32} {w : Nat → Int32} (dp : ls_DP R pl K pt s w) (d0 : d ≠ 0) (d2 : d < 256) (hd : ¬ pl d) (hy : y < 16) :
    ls_DP (ls_s4 R d (ls_ch (y % 4) 0 v (R (ls_gb pt (y / 4)) 0)) (ls_ch (y % 4) 1 v (R (ls_gb pt (y / 4)) 1)) (ls_ch (y % 4) 2 v (R (ls_gb pt (y / 4)) 2)) (ls_ch (y % 4) 3 v (R (ls_gb pt (y / 4)) 3))) (ls_ad pl d) (ls_u K d 3) (ls_sb pt (y / 4) d) (ls_nz s y) (upd w y v) := by
  refine ls_dpN (f := fun i => ls_ch (y % 4) i v (R (ls_gb pt (y / 4)) i)) (s' := ls_nz s y) (w' := upd w y v) dp d0 d2 hd (by omega) ?_ (fun b hb e hz => ?_) (fun x hx e => ?_) (fun x hx e => ?_)
  · unfold ls_nz; split <;> omega
  · refine (dp.1 b hb).2 ?_
    unfold ls_nz at hz
    split at hz <;> omega
  · exact pk_un (fun z => e (by rw [z]))
  · show (if y % 4 = x % 4 then v else R (ls_gb pt (y / 4)) (x % 4)) = upd w y v x
    by_cases z : x = y
    · subst z; rw [if_pos rfl, pk_us]
    · rw [if_neg (by omega), pk_un z, ← e]
      exact dp.2 x hx
theorem ls_dpT0 {pt : Int32} {s s' : Nat} {w : Nat → Int32} (dp : ls_DP R pl K pt s w) (hw : ∀ y, s ≤ y → w y = 0) (hs : s ≤ s') : ls_DP R pl K pt s' (fun y => if y < s' then w y else 0) := by
  refine ⟨fun b hb => ⟨(dp.1 b hb).1, fun z => (dp.1 b hb).2 (by omega)⟩, fun x hx => ?_⟩
  rw [dp.2 x hx]
  by_cases z : x < s'
  · exact (if_pos z).symm
  · rw [hw x (by omega)]
    exact (if_neg z).symm
theorem ls_dpTA {pt r : Int32} {s s' : Nat} {w : Nat → Int32} (dp : ls_DP R pl K pt s w) (h0 : ∀ w, w < 4 → R 0 w = 0) (hr : ∀ j, j < 4 → ls_gb r j = if s' ≤ 4 * j then 0 else ls_gb pt j) (hA : s' % 4 = 0 ∨ ls_gb r (s' / 4) = 0) : ls_DP R pl K r s' (fun y => if y < s' then w y else 0) := by
  refine ⟨fun b hb => ⟨?_, fun z => by rw [hr b hb, if_pos z]⟩, fun x hx => ?_⟩
  · rw [hr b hb]
    by_cases z : s' ≤ 4 * b
    · rw [if_pos z]; exact Or.inl rfl
    · rw [if_neg z]; exact (dp.1 b hb).1
  · show _ = if x < s' then w x else 0
    by_cases z : x < s'
    · rw [if_pos z, hr _ (by omega), if_neg (by omega)]
      exact dp.2 x hx
    · rw [if_neg z]
      have e : ls_gb r (x / 4) = 0 := by
        by_cases y : s' ≤ 4 * (x / 4)
        · rw [hr _ (by omega), if_pos y]
        · rcases hA with a | a
          · omega
          · rw [show x / 4 = s' / 4 from by omega]; exact a
      rw [e]
      exact h0 _ (by omega)
theorem ls_dpTB {pt r : Int32} {s s' d : Nat} {w : Nat → Int32} (dp : ls_DP R pl K pt s w) (h0 : ∀ w, w < 4 → R 0 w = 0) (hr : ∀ j, j < 4 → ls_gb r j = if s' ≤ 4 * j then 0 else ls_gb pt j) (hs : s' < 16) (h4 : s' % 4 ≠ 0) (d0 : d ≠ 0) (d2 : d < 256) (hd : ¬ pl d) :
    ls_DP (ls_s4 R d (ls_kp (s' % 4) 0 (R (ls_gb r (s' / 4)) 0)) (ls_kp (s' % 4) 1 (R (ls_gb r (s' / 4)) 1)) (ls_kp (s' % 4) 2 (R (ls_gb r (s' / 4)) 2)) (ls_kp (s' % 4) 3 (R (ls_gb r (s' / 4)) 3))) (ls_ad pl d) (ls_u K d 3) (ls_sb r (s' / 4) d) s' (fun y => if y < s' then w y else 0) := by
  have base : ls_DP R pl K r (4 * (s' / 4 + 1)) (fun y => if y < 4 * (s' / 4 + 1) then w y else 0) := by
    refine ls_dpTA dp h0 (fun j hj => ?_) (Or.inl (by omega))
    rw [hr j hj]
    by_cases z : s' ≤ 4 * j
    · rw [if_pos z, if_pos (by omega)]
    · rw [if_neg z, if_neg (by omega)]
  refine ls_dpN (f := fun i => ls_kp (s' % 4) i (R (ls_gb r (s' / 4)) i)) (s' := s') base d0 d2 hd (by omega) (by omega) (fun b hb e hz => by rw [hr b hb, if_pos hz]) (fun x hx e => ?_) (fun x hx e => ?_)
  · show (if x < s' then w x else 0) = if x < 4 * (s' / 4 + 1) then w x else 0
    by_cases z : x < s'
    · rw [if_pos z, if_pos (by omega)]
    · rw [if_neg z, if_neg (by omega)]
  · show (if x % 4 < s' % 4 then R (ls_gb r (s' / 4)) (x % 4) else 0) = if x < s' then w x else 0
    by_cases z : x < s'
    · rw [if_pos z, if_pos (by omega), hr _ (by omega), if_neg (by omega), ← e]
      exact dp.2 x hx
    · rw [if_neg z, if_neg (by omega)]
end
/-! ===== two inodes and a map ===== -/
theorem ls_two {R : Nat → Nat → Int32} {pl : Nat → Prop} {K rt : Nat → Nat} {N : Nat} {A : Nat → Nat → ls_FR} {M : Nat → Nat × Nat} {m a b iA iB x y p1 g1 s1 p2 g2 s2 : Nat} {w1 w2 : Nat → Int32} {ptA ptB fA fB : Int32}
    (hT : ls_TR R pl K rt N A M) (hC : ls_CV R pl rt N) (dA : ls_DP R pl K ptA s1 w1) (dB : ls_DP R pl K ptB s2 w2)
    (sA : ∀ j, j < 4 → ls_gb ptA j = 0 ∨ ls_iT R (rt (N + 1)) (ls_gb ptA j)) (sB : ∀ j, j < 4 → ls_gb ptB j = 0 ∨ ls_iT R (rt (N + 1)) (ls_gb ptB j))
    (a8 : a < 8) (b8 : b < 8) (ne : a ≠ b) (hxy : (x = a ∧ y = b) ∨ (x = b ∧ y = a)) (A1 : 1 ≤ iA) (A2 : iA < 256) (A3 : ¬ pl iA) (B1 : 1 ≤ iB) (B2 : iB < 256) (B3 : ¬ ls_ad pl iA iB) (m1 : 1 ≤ m) (m3 : ¬ ls_ad (ls_ad pl iA) iB m) :
    ∃ K', ls_TR (ls_s4 (ls_s4 (ls_s4 R iA (nI (ls_hd p1 g1 s1)) ptA fA 0) iB (nI (ls_hd p2 g2 s2)) ptB fB 0) m (ls_we (ls_we ((ls_s4 (ls_s4 R iA (nI (ls_hd p1 g1 s1)) ptA fA 0) iB (nI (ls_hd p2 g2 s2)) ptB fB 0) (rt (N + 1)) 0) 0 a iA) 0 b iB) (ls_we (ls_we ((ls_s4 (ls_s4 R iA (nI (ls_hd p1 g1 s1)) ptA fA 0) iB (nI (ls_hd p2 g2 s2)) ptB fB 0) (rt (N + 1)) 1) 1 a iA) 1 b iB) (ls_mk a b) 0) (ls_ad (ls_ad (ls_ad pl iA) iB) m) K' (ls_u rt (N + 2) m) (N + 1) (ls_add A N (ls_set (ls_set (A (N + 1)) a (p1, g1, s1, w1)) b (p2, g2, s2, w2))) (ls_mad M N x y) ∧
      ls_CV (ls_s4 (ls_s4 (ls_s4 R iA (nI (ls_hd p1 g1 s1)) ptA fA 0) iB (nI (ls_hd p2 g2 s2)) ptB fB 0) m (ls_we (ls_we ((ls_s4 (ls_s4 R iA (nI (ls_hd p1 g1 s1)) ptA fA 0) iB (nI (ls_hd p2 g2 s2)) ptB fB 0) (rt (N + 1)) 0) 0 a iA) 0 b iB) (ls_we (ls_we ((ls_s4 (ls_s4 R iA (nI (ls_hd p1 g1 s1)) ptA fA 0) iB (nI (ls_hd p2 g2 s2)) ptB fB 0) (rt (N + 1)) 1) 1 a iA) 1 b iB) (ls_mk a b) 0) (ls_ad (ls_ad (ls_ad pl iA) iB) m) (ls_u rt (N + 2) m) (N + 1) := by
  have a0 : iA ≠ 0 := by omega
  have b0 : iB ≠ 0 := by omega
  have ap1 := ls_apI (pp := p1) (g := g1) (x := fA) hT a0 A3 dA
  have ag1 := ls_adA (R := R) (w0 := nI (ls_hd p1 g1 s1)) (w1 := ptA) (w2 := fA) (w3 := 0) a0 A3
  have sub1 := ls_adS (K := K) (k := 2) A3
  have cv1 := ls_apC (e1 := 0) (w0 := nI (ls_hd p1 g1 s1)) (w1 := ptA) (w2 := fA) (w3 := 0) hT a0 A3 (fun n hn => Or.inl (hC n hn))
  have hr1 := (hT.2.1 (N + 1) (by omega)).1
  have hdA : ∀ j, ls_dat (ls_s4 R iA (nI (ls_hd p1 g1 s1)) ptA fA 0) iA j = ls_gb ptA j := fun j => by unfold ls_dat; rw [ls_s41]
  have sA1 : ∀ j, j < 4 → ls_gb ptA j = 0 ∨ ls_iT (ls_s4 R iA (nI (ls_hd p1 g1 s1)) ptA fA 0) (rt (N + 1)) (ls_gb ptA j) := fun j hj => by
    rcases sA j hj with z | z
    · exact Or.inl z
    · exact Or.inr ((ls_agT ag1 hT.1 hr1).mpr z)
  have sB1 : ∀ j, j < 4 → ls_gb ptB j = 0 ∨ ls_iT (ls_s4 R iA (nI (ls_hd p1 g1 s1)) ptA fA 0) (rt (N + 1)) (ls_gb ptB j) := fun j hj => by
    rcases sB j hj with z | z
    · exact Or.inl z
    · exact Or.inr ((ls_agT ag1 hT.1 hr1).mpr z)
  have dB1 := ls_agP ag1 sub1 dB
  generalize hR1 : ls_s4 R iA (nI (ls_hd p1 g1 s1)) ptA fA 0 = R1 at *
  generalize hK1 : ls_u K iA 2 = K1 at *
  generalize hp1 : ls_ad pl iA = pl1 at *
  have ap2 := ls_apI (pp := p2) (g := g2) (x := fB) ap1.1 b0 B3 dB1
  have ag2 := ls_adA (R := R1) (w0 := nI (ls_hd p2 g2 s2)) (w1 := ptB) (w2 := fB) (w3 := 0) b0 B3
  have sub2 := ls_adS (K := K1) (k := 2) B3
  have cv2 : ∀ n, ls_ad pl1 iB n → (∃ k, k ≤ N + 1 ∧ ls_iT (ls_s4 R1 iB (nI (ls_hd p2 g2 s2)) ptB fB 0) (rt k) n) ∨ n = iA ∨ n = iB :=
    ls_apC ap1.1 b0 B3 (fun n hn => by
      rcases cv1 n hn with z | z | z
      · exact Or.inl z
      · exact absurd hn (by rw [z]; exact ap1.1.1.2.1)
      · exact Or.inr z)
  have hr2 := (ap1.1.2.1 (N + 1) (by omega)).1
  have hdB : ∀ j, ls_dat (ls_s4 R1 iB (nI (ls_hd p2 g2 s2)) ptB fB 0) iB j = ls_gb ptB j := fun j => by unfold ls_dat; rw [ls_s41]
  have hplA : pl1 iA := by rw [← hp1]; exact Or.inr rfl
  have hdA2 : ∀ j, ls_dat (ls_s4 R1 iB (nI (ls_hd p2 g2 s2)) ptB fB 0) iA j = ls_gb ptA j := fun j => by rw [ls_agD ag2 (Or.inr hplA)]; exact hdA j
  refine ⟨_, ls_commit (iA := iA) (iB := iB) (e1 := iA) (e2 := iB) ap2.1 cv2 (by omega) m3 a8 b8 A2 B2 (ls_agN ag2 sub2 ap1.2) ap2.2 (Or.inl rfl) (Or.inr rfl) (fun j hj => ?_) (fun j hj => ?_) (Or.inl ⟨ne, rfl⟩) (Or.inr (Or.inl rfl)) hxy⟩
  · rw [hdA2]
    rcases sA1 j hj with z | z
    · exact Or.inl z
    · exact Or.inr (Or.inl ((ls_agT ag2 ap1.1.1 hr2).mpr z))
  · rw [hdB]
    rcases sB1 j hj with z | z
    · exact Or.inl z
    · exact Or.inr (Or.inl ((ls_agT ag2 ap1.1.1 hr2).mpr z))
end
section
/-! ===== create, remove, write, truncate, rename, exchange of the component ===== -/
section
variable {fl bl tl t p hp mo : Nat} {A : Nat → Nat → ls_FR} {M : Nat → Nat × Nat} {u : SX} {R : Nat → Nat → Int32} {pl : Nat → Prop} {K rt : Nat → Nat} {post : Int32 → SX → Prop}
theorem ls_nif (w : ls_CW (fl, bl, tl, t, p, hp, mo, A, M)) (hT : ls_TR R pl K rt (t + p) A M) {k f : Nat} (hk : k ≤ t + p + 1) (hf : f < 8) :
    R (ls_ino R (rt k) f) 0 = nI (ls_hd (A k f).1 (A k f).2.1 (A k f).2.2.1) ∧ (A k f).1 < 2 ∧ (A k f).2.1 < 16 ∧ (A k f).2.2.1 < 32 := by
  have a := (w.2.1 k hk f hf).1
  have a3 := a.2.2.1
  exact ⟨((hT.2.1 k hk).2 f hf).2.1, a.1, a.2.1, by omega⟩
theorem ls_cnt (w : ls_CW (fl, bl, tl, t, p, hp, mo, A, M)) (hT : ls_TR R pl K rt (t + p) A M) (hC : ls_CV R pl rt (t + p)) : ls_cn pl 256 ≤ 138 := by
  have w1 := w.1
  exact ls_count hT hC (by omega) (fun k hk => Nat.le_trans (w.2.2.1 k hk) (by omega))
theorem ls_szs (w : ls_CW (fl, bl, tl, t, p, hp, mo, A, M)) (hT : ls_TR R pl K rt (t + p) A M) {k : Nat} (hk : k ≤ t + p + 1) : ∀ f, f < 8 → (A k f).2.2.1 < 32 ∧ ∃ p g, p < 2 ∧ g < 16 ∧ R (ls_ino R (rt k) f) 0 = nI (ls_hd p g (A k f).2.2.1) := by
  intro f hf
  have a := ls_nif w hT hk hf
  exact ⟨a.2.2.2, _, _, a.2.1, a.2.2.1, a.1⟩
theorem ls_xCreate {x : Int32} (w : ls_CW (fl, bl, tl, t, p, hp, mo, A, M)) (hX : ls_RX (fl, bl, tl, t, p, hp, mo, A, M) u)
    (k : ∀ u', ls_RX (ls_c1 (fl, bl, tl, t, p, hp, mo, A, M) x (ls_fCreate (fl, bl, tl, t, p, hp, mo, A, M))).2 u' → post (ls_c1 (fl, bl, tl, t, p, hp, mo, A, M) x (ls_fCreate (fl, bl, tl, t, p, hp, mo, A, M))).1 u') : wpX_create post u x := by
  refine ls_RXe (Q := fun u => wpX_create post u x) hX ?_
  clear hX
  intro sF sC sH sV np D R pl K rt ln fs hd hu vi vs dk pa lv ss sl h hD hT hC hX
  unfold wpX_create
  refine ls_pre1 w h hX k (fun f m0 ef hf k' => ?_)
  clear k
  subst ef
  have k := k'
  clear k'
  have w1 := w.1
  have hw := ls_nif w hT (k := t + p + 1) (f := f) (by omega) (by omega)
  refine ls_xCur h (by omega) hD ?_
  refine ls_xIno h (ls_rt2 h (hT.2.1 _ (Nat.le_refl _)).1) (f := f) (by omega) ?_
  refine ls_xPres h (ls_gb_lt _ _) hw.1 hw.2.1 hw.2.2.1 hw.2.2.2 ?_
  unfold ls_fCreate at k
  dsimp only at k
  refine pk_eq (A (t + p + 1) f).1 0 (fun p0 => ?_) (fun p0 => ?_) rfl rfl (by omega) (by decide)
  · rw [if_pos p0] at k
    refine ls_xFull h (by omega) (by omega) (fun hl => ?_) (fun hl => ?_)
    · rw [if_neg (by omega)] at k
      refine br_t rfl ?_
      refine ls_xRoomS h (ls_cnt w hT hC) (fun ln fs hd hu vi vs dk pa lv ss sl h => ?_)
      refine ls_xNext h (ls_gb_lt _ _) hw.1 hw.2.1 hw.2.2.1 hw.2.2.2 ?_
      refine ls_tail1 (q := 1) (e := 0) (pp := 1) (g := ((A (t + p + 1) f).2.1 + 1) % 16) (s := 0) (w := fun _ => 0) (A := A) (M := M) h hD hT (fun n hn => Or.inl (hC n hn)) (by omega) (by omega) (by omega) (by omega) (by omega) (ls_dp0 hT.1.1) (fun b _ => Or.inl (ls_gb0 b)) (Or.inl rfl) (fun i u' H => ?_)
      obtain ⟨sF, sC, sH, sV, fl, bl, tl, ln, fs, hd, hu, vi, vs, tc, pc, np, mo, dk, pa, lv, ss, sl, op⟩ := u'
      refine H _ (fun u'' h'' => ?_)
      obtain ⟨sF, sC, sH, sV, fl, bl, tl, ln, fs, hd, hu, vi, vs, tc, pc, np, mo, dk, pa, lv, ss, sl, op⟩ := u''
      exact k _ h''
    · rw [if_pos hl] at k; exact br_f (by decide) (k _ hX)
  · rw [if_neg p0] at k; exact k _ hX
theorem ls_xRemove {x : Int32} (w : ls_CW (fl, bl, tl, t, p, hp, mo, A, M)) (hX : ls_RX (fl, bl, tl, t, p, hp, mo, A, M) u)
    (k : ∀ u', ls_RX (ls_c1 (fl, bl, tl, t, p, hp, mo, A, M) x (ls_fRemove (fl, bl, tl, t, p, hp, mo, A, M))).2 u' → post (ls_c1 (fl, bl, tl, t, p, hp, mo, A, M) x (ls_fRemove (fl, bl, tl, t, p, hp, mo, A, M))).1 u') : wpX_remove post u x := by
  refine ls_RXe (Q := fun u => wpX_remove post u x) hX ?_
  clear hX
  intro sF sC sH sV np D R pl K rt ln fs hd hu vi vs dk pa lv ss sl h hD hT hC hX
  unfold wpX_remove
  refine ls_pre1 w h hX k (fun f m0 ef hf k' => ?_)
  clear k
  subst ef
  have k := k'
  clear k'
  have w1 := w.1
  have hw := ls_nif w hT (k := t + p + 1) (f := f) (by omega) (by omega)
  refine ls_xCur h (by omega) hD ?_
  refine ls_xIno h (ls_rt2 h (hT.2.1 _ (Nat.le_refl _)).1) (f := f) (by omega) ?_
  refine ls_xPres h (ls_gb_lt _ _) hw.1 hw.2.1 hw.2.2.1 hw.2.2.2 ?_
  unfold ls_fRemove at k
  dsimp only at k
  refine pk_eq (A (t + p + 1) f).1 0 (fun p0 => ?_) (fun p0 => ?_) rfl rfl (by omega) (by decide)
  · rw [if_pos p0] at k; exact k _ hX
  · rw [if_neg p0] at k
    refine ls_xFull h (by omega) (by omega) (fun hl => ?_) (fun hl => ?_)
    · rw [if_neg (by omega)] at k
      refine br_t rfl ?_
      refine ls_xRoomS h (ls_cnt w hT hC) (fun ln fs hd hu vi vs dk pa lv ss sl h => ?_)
      refine ls_xGen h (ls_gb_lt _ _) hw.1 hw.2.1 hw.2.2.1 hw.2.2.2 ?_
      refine ls_tail1 (q := 1) (e := 0) (pp := 0) (g := (A (t + p + 1) f).2.1) (s := 0) (w := fun _ => 0) (A := A) (M := M) h hD hT (fun n hn => Or.inl (hC n hn)) (by omega) (by omega) (by omega) (by omega) (by omega) (ls_dp0 hT.1.1) (fun b _ => Or.inl (ls_gb0 b)) (Or.inl rfl) (fun i u' H => ?_)
      obtain ⟨sF, sC, sH, sV, fl, bl, tl, ln, fs, hd, hu, vi, vs, tc, pc, np, mo, dk, pa, lv, ss, sl, op⟩ := u'
      refine H _ (fun u'' h'' => ?_)
      obtain ⟨sF, sC, sH, sV, fl, bl, tl, ln, fs, hd, hu, vi, vs, tc, pc, np, mo, dk, pa, lv, ss, sl, op⟩ := u''
      exact k _ h''
    · rw [if_pos hl] at k; exact br_f (by decide) (k _ hX)
/-- what the new size of one file means for the blocks in use -/
theorem ls_usedN {C : Nat → ls_FR} {f : Nat} {x : ls_FR} (hf : f < 8) : ls_sm (fun f => ls_bf (C f).2.2.1) 8 - ls_bf (C f).2.2.1 + ls_bf x.2.2.1 = ls_used (ls_set C f x) := by
  have a := ls_used_set (C := C) (x := x) hf
  have b := ls_used_le (C := C) hf
  unfold ls_used at a b ⊢
  omega
theorem ls_xWrite {x y v : Int32} (w : ls_CW (fl, bl, tl, t, p, hp, mo, A, M)) (hX : ls_RX (fl, bl, tl, t, p, hp, mo, A, M) u)
    (k : ∀ u', ls_RX (ls_c1 (fl, bl, tl, t, p, hp, mo, A, M) x (ls_fWrite (fl, bl, tl, t, p, hp, mo, A, M) y v)).2 u' → post (ls_c1 (fl, bl, tl, t, p, hp, mo, A, M) x (ls_fWrite (fl, bl, tl, t, p, hp, mo, A, M) y v)).1 u') : wpX_write post u x y v := by
  refine ls_RXe (Q := fun u => wpX_write post u x y v) hX ?_
  clear hX
  intro sF sC sH sV np D R pl K rt ln fs hd hu vi vs dk pa lv ss sl h hD hT hC hX
  unfold wpX_write
  refine ls_pre1 w h hX k (fun f m0 ef hf k' => ?_)
  clear k
  subst ef
  have k := k'
  clear k'
  have w1 := w.1
  have hf8 : f < 8 := by omega
  have hw := ls_nif w hT (k := t + p + 1) (f := f) (by omega) (by omega)
  have hr := (hT.2.1 (t + p + 1) (Nat.le_refl _)).1
  have hN := (hT.2.1 (t + p + 1) (Nat.le_refl _)).2 f hf8
  refine ls_xCur h (by omega) hD ?_
  refine ls_xIno h (ls_rt2 h hr) (f := f) (by omega) ?_
  refine ls_xPres h (ls_gb_lt _ _) hw.1 hw.2.1 hw.2.2.1 hw.2.2.2 ?_
  unfold ls_fWrite at k
  dsimp only at k
  refine pk_eq (A (t + p + 1) f).1 0 (fun p0 => ?_) (fun p0 => ?_) rfl rfl (by omega) (by decide)
  · rw [if_pos p0] at k; exact k _ hX
  · rw [if_neg p0] at k
    refine br_c (fun y0 => ?_) (fun y0 => ?_)
    · rw [if_pos (Or.inl y0)] at k; exact k _ hX
    · obtain ⟨y, hy, rfl⟩ := nI_of y0
      refine pk_lt y 16 (fun y1 => ?_) (fun y1 => ?_) rfl rfl hy (by decide)
      · rw [if_neg (by
          rintro (z | z)
          · exact y0 z
          · exact nI_ge (b := 16) y1 (by decide) z), nI_clamp hy] at k
        refine ls_xSize h (ls_gb_lt _ _) hw.1 hw.2.1 hw.2.2.1 hw.2.2.2 ?_
        have main : wX_write_82 post (nI f) (nI y) v (nI (rt (t + p + 1))) (nI (ls_ino R (rt (t + p + 1)) f)) (nI (A (t + p + 1) f).2.2.1) (nI (ls_nz (A (t + p + 1) f).2.2.1 y)) sF sC sH sV (nI fl) (nI bl) (nI tl) ln fs hd hu vi vs (nI t) (nI p) (nI np) (nI mo) dk pa lv ss sl (ls_f (fun j => rt (j + 2))) := by
          unfold wX_write_82
          have hz : ls_nz (A (t + p + 1) f).2.2.1 y < 32 := by unfold ls_nz; have := hw.2.2.2; split <;> omega
          have hus := ls_usedN (C := A (t + p + 1)) (x := ls_rW (A (t + p + 1) f) y v) hf8
          have hub := w.2.2.1 (t + p + 1) (Nat.le_refl _)
          unfold ls_used at hub
          refine ls_xLarge (sz := fun f => (A (t + p + 1) f).2.2.1) h (ls_rt2 h hr) (by omega) (ls_szs w hT (Nat.le_refl _)) hw.2.2.2 hz (ls_used_le (C := A (t + p + 1)) hf8) (by omega) (fun hl => ?_) (fun hl => ?_)
          · rw [if_neg (by rw [← hus]; exact Nat.not_lt.mpr hl)] at k
            refine br_t rfl ?_
            refine ls_xFull h (by omega) (by omega) (fun hl => ?_) (fun hl => ?_)
            · rw [if_neg (by omega)] at k
              refine br_t rfl ?_
              refine ls_xRoomS h (ls_cnt w hT hC) (fun ln fs hd hu vi vs dk pa lv ss sl h => ?_)
              refine ls_xRead h (ls_gb_lt _ _) (w := 1) (by omega) ?_
              refine nm_r (ls_sh2 (by omega)) ?_
              refine ls_xGB _ (i := y / 4) rfl (by omega) ?_
              dsimp only
              rw [ls_a3 (by omega)]
              refine ls_xChanged (q := 2) h (ls_gb_lt _ _) (by omega) (fun d ln fs hd hu vi vs dk pa lv ss sl d1 d2 d3 h => ?_)
              refine ls_xSB _ (i := y / 4) (v := d) rfl (by omega) rfl ?_
              have d0 : d ≠ 0 := by omega
              have ag := ls_adA (R := R) (w0 := ls_ch (y % 4) 0 v (R (ls_gb (R (ls_ino R (rt (t + p + 1)) f) 1) (y / 4)) 0)) (w1 := ls_ch (y % 4) 1 v (R (ls_gb (R (ls_ino R (rt (t + p + 1)) f) 1) (y / 4)) 1)) (w2 := ls_ch (y % 4) 2 v (R (ls_gb (R (ls_ino R (rt (t + p + 1)) f) 1) (y / 4)) 2)) (w3 := ls_ch (y % 4) 3 v (R (ls_gb (R (ls_ino R (rt (t + p + 1)) f) 1) (y / 4)) 3)) d0 d3
              have hino : ls_ino R (rt (t + p + 1)) f = 0 ∨ pl (ls_ino R (rt (t + p + 1)) f) := by
                rcases hN.1 with z | z
                · exact Or.inl z
                · exact Or.inr z.1
              refine ls_xGen (i := ls_ino R (rt (t + p + 1)) f) h (ls_gb_lt _ _) (p := (A (t + p + 1) f).1) (g := (A (t + p + 1) f).2.1) (s := (A (t + p + 1) f).2.2.1) ((ag _ 0 (by omega) hino).trans hw.1) hw.2.1 hw.2.2.1 hw.2.2.2 ?_
              have hT' := ls_apD (w0 := ls_ch (y % 4) 0 v (R (ls_gb (R (ls_ino R (rt (t + p + 1)) f) 1) (y / 4)) 0)) (w1 := ls_ch (y % 4) 1 v (R (ls_gb (R (ls_ino R (rt (t + p + 1)) f) 1) (y / 4)) 1)) (w2 := ls_ch (y % 4) 2 v (R (ls_gb (R (ls_ino R (rt (t + p + 1)) f) 1) (y / 4)) 2)) (w3 := ls_ch (y % 4) 3 v (R (ls_gb (R (ls_ino R (rt (t + p + 1)) f) 1) (y / 4)) 3)) hT d0 d3
              have cv' := ls_apC (e1 := d) (w0 := ls_ch (y % 4) 0 v (R (ls_gb (R (ls_ino R (rt (t + p + 1)) f) 1) (y / 4)) 0)) (w1 := ls_ch (y % 4) 1 v (R (ls_gb (R (ls_ino R (rt (t + p + 1)) f) 1) (y / 4)) 1)) (w2 := ls_ch (y % 4) 2 v (R (ls_gb (R (ls_ino R (rt (t + p + 1)) f) 1) (y / 4)) 2)) (w3 := ls_ch (y % 4) 3 v (R (ls_gb (R (ls_ino R (rt (t + p + 1)) f) 1) (y / 4)) 3)) hT d0 d3 (fun n hn => Or.inl (hC n hn))
              refine ls_tail1 (q := 0) (e := d) (pp := 1) (g := (A (t + p + 1) f).2.1) (s := ls_nz (A (t + p + 1) f).2.2.1 y) (w := upd (A (t + p + 1) f).2.2.2 y v) (A := A) (M := M) h hD hT' (fun n hn => by
                  rcases cv' n hn with z | z | z
                  · exact Or.inl z
                  · exact Or.inr z
                  · exact Or.inr z) (by omega) (by omega) (by omega) (by omega) hz (ls_dpW hN.2.2 d0 d2 d3 y1) (fun b hb => ?_) (Or.inr ⟨y / 4, by omega, (ls_gbs_s _ (by omega) d2).symm⟩) (fun i u' H => ?_)
              · by_cases e : b = y / 4
                · subst e; exact Or.inr (Or.inr (ls_gbs_s _ (by omega) d2))
                · rw [ls_gbs_n _ (by omega) hb d2 e]
                  exact Or.inr (Or.inl ((ls_agT ag hT.1 hr).mpr (Or.inr (Or.inr ⟨f, b, hf8, hb, rfl⟩))))
              · obtain ⟨sF, sC, sH, sV, fl, bl, tl, ln, fs, hd, hu, vi, vs, tc, pc, np, mo, dk, pa, lv, ss, sl, op⟩ := u'
                refine H _ (fun u'' h'' => ?_)
                obtain ⟨sF, sC, sH, sV, fl, bl, tl, ln, fs, hd, hu, vi, vs, tc, pc, np, mo, dk, pa, lv, ss, sl, op⟩ := u''
                exact k _ h''
            · rw [if_pos hl] at k; exact br_f (by decide) (k _ hX)
          · rw [if_pos (by rw [← hus]; exact hl)] at k; exact br_f (by decide) (k _ hX)
        refine pk_lt y (A (t + p + 1) f).2.2.1 (fun z => ?_) (fun z => ?_) rfl rfl hy (by omega)
        · rw [show ls_nz (A (t + p + 1) f).2.2.1 y = (A (t + p + 1) f).2.2.1 from if_pos z] at main
          exact main
        · rw [show ls_nz (A (t + p + 1) f).2.2.1 y = y + 1 from if_neg (by omega)] at main
          rw [nI_1]
          exact main
      · have y2 : (16 : Int32) ≤ nI y := nI_le (a := 16) y1 hy
        rw [if_pos (Or.inr y2)] at k; exact k _ hX
end
end
section
/-! ===== truncate, rename, exchange of the component ===== -/
section
variable {sF sC sH sV : Int32} {fl bl tl t p hp mo np q : Nat} {A : Nat → Nat → ls_FR} {M : Nat → Nat × Nat} {D : Nat → Int32} {R : Nat → Nat → Int32} {pl : Nat → Prop} {K rt : Nat → Nat} {ln fs hd hu vi vs : Int32} {dk pa lv ss sl : Nat → Int32}
theorem ls_xTr118 {post : Int32 → SX → Prop} {f i s e p0 g0 s0 : Nat} {pt : Int32} {w : Nat → Int32} (h : ls_HX sF sC sH sV (nI fl) (nI bl) (nI tl) (nI t) (nI p) (nI np) (nI mo) (ls_f (fun j => rt (j + 2))) D R pl (q+2) (sF, sC, sH, sV, (nI fl), (nI bl), (nI tl), ln, fs, hd, hu, vi, vs, (nI t), (nI p), (nI np), (nI mo), dk, pa, lv, ss, sl, (ls_f (fun j => rt (j + 2))))) (hD : ls_DD D np hp rt) (hT : ls_TR R pl K rt (t + p) A M)
    (cv : ∀ n, pl n → (∃ k, k ≤ t + p + 1 ∧ ls_iT R (rt k) n) ∨ n = e) (ht : t + p < 24) (hf : f < 8) (hs : s < 32) (hi : i < 256) (he : R i 0 = nI (ls_hd p0 g0 s0)) (hp0 : p0 < 2) (hg0 : g0 < 16) (hs0 : s0 < 32) (dp : ls_DP R pl K pt s w)
    (sd : ∀ b, b < 4 → ls_gb pt b = 0 ∨ ls_iT R (rt (t + p + 1)) (ls_gb pt b) ∨ ls_gb pt b = e) (ce : e = 0 ∨ ∃ j, j < 4 ∧ e = ls_gb pt j)
    (k : ∀ u', ls_RX (ls_op (fl, bl, tl, t, p, hp, mo, A, M) f f f f (1, (if s = 0 then (g0 + 1) % 16 else g0), s, w) (1, (if s = 0 then (g0 + 1) % 16 else g0), s, w)) u' → post 0 u') :
    wX_truncate_118 post (nI f) (nI s) (nI (rt (t + p + 1))) (nI i) pt sF sC sH sV (nI fl) (nI bl) (nI tl) ln fs hd hu vi vs (nI t) (nI p) (nI np) (nI mo) dk pa lv ss sl (ls_f (fun j => rt (j + 2))) := by
  unfold wX_truncate_118
  refine pk_eq s 0 (fun z => ?_) (fun z => ?_) rfl rfl (by omega) (by decide)
  · rw [if_pos z] at k
    refine ls_xNext h hi he hp0 hg0 hs0 ?_
    unfold wX_truncate_137
    refine ls_tail1 (pp := 1) (g := (g0 + 1) % 16) (s := s) (w := w) h hD hT cv ht hf (by omega) (by omega) hs dp sd ce (fun i u' H => ?_)
    obtain ⟨sF, sC, sH, sV, fl, bl, tl, ln, fs, hd, hu, vi, vs, tc, pc, np, mo, dk, pa, lv, ss, sl, op⟩ := u'
    refine H _ (fun u'' h'' => ?_)
    obtain ⟨sF, sC, sH, sV, fl, bl, tl, ln, fs, hd, hu, vi, vs, tc, pc, np, mo, dk, pa, lv, ss, sl, op⟩ := u''
    exact k _ h''
  · rw [if_neg z] at k
    refine ls_xGen h hi he hp0 hg0 hs0 ?_
    unfold wX_truncate_137
    refine ls_tail1 (pp := 1) (g := g0) (s := s) (w := w) h hD hT cv ht hf (by omega) (by omega) hs dp sd ce (fun i u' H => ?_)
    obtain ⟨sF, sC, sH, sV, fl, bl, tl, ln, fs, hd, hu, vi, vs, tc, pc, np, mo, dk, pa, lv, ss, sl, op⟩ := u'
    refine H _ (fun u'' h'' => ?_)
    obtain ⟨sF, sC, sH, sV, fl, bl, tl, ln, fs, hd, hu, vi, vs, tc, pc, np, mo, dk, pa, lv, ss, sl, op⟩ := u''
    exact k _ h''
end
section
variable {fl bl tl t p hp mo : Nat} {A : Nat → Nat → ls_FR} {M : Nat → Nat × Nat} {u : SX} {R : Nat → Nat → Int32} {pl : Nat → Prop} {K rt : Nat → Nat} {post : Int32 → SX → Prop}
theorem ls_xTrunc {x y : Int32} (w : ls_CW (fl, bl, tl, t, p, hp, mo, A, M)) (hX : ls_RX (fl, bl, tl, t, p, hp, mo, A, M) u)
    (k : ∀ u', ls_RX (ls_c1 (fl, bl, tl, t, p, hp, mo, A, M) x (ls_fTrunc (fl, bl, tl, t, p, hp, mo, A, M) y)).2 u' → post (ls_c1 (fl, bl, tl, t, p, hp, mo, A, M) x (ls_fTrunc (fl, bl, tl, t, p, hp, mo, A, M) y)).1 u') : wpX_truncate post u x y := by
  refine ls_RXe (Q := fun u => wpX_truncate post u x y) hX ?_
  clear hX
  intro sF sC sH sV np D R pl K rt ln fs hd hu vi vs dk pa lv ss sl h hD hT hC hX
  unfold wpX_truncate
  refine ls_pre1 w h hX k (fun f m0 ef hf k' => ?_)
  clear k
  subst ef
  have k := k'
  clear k'
  have w1 := w.1
  have hf8 : f < 8 := by omega
  have hw := ls_nif w hT (k := t + p + 1) (f := f) (by omega) (by omega)
  have hwf := (w.2.1 (t + p + 1) (Nat.le_refl _) f hf8).1
  have hr := (hT.2.1 (t + p + 1) (Nat.le_refl _)).1
  have hN := (hT.2.1 (t + p + 1) (Nat.le_refl _)).2 f hf8
  have hil : ls_ino R (rt (t + p + 1)) f < 256 := ls_gb_lt _ _
  refine ls_xCur h (by omega) hD ?_
  refine ls_xIno h (ls_rt2 h hr) (f := f) (by omega) ?_
  refine ls_xPres h hil hw.1 hw.2.1 hw.2.2.1 hw.2.2.2 ?_
  unfold ls_fTrunc at k
  dsimp only at k
  refine pk_eq (A (t + p + 1) f).1 0 (fun p0 => ?_) (fun p0 => ?_) rfl rfl (by omega) (by decide)
  · rw [if_pos p0] at k; exact k _ hX
  · rw [if_neg p0] at k
    refine br_c (fun y0 => ?_) (fun y0 => ?_)
    · rw [if_pos (Or.inl y0)] at k; exact k _ hX
    · obtain ⟨s, hs, rfl⟩ := nI_of y0
      refine br_c (fun y1' => ?_) (fun y1' => ?_)
      · have y1 : s ≤ 16 := by rw [show (16 : Int32) = nI 16 from rfl, nI_leI hs (by decide)] at y1'; exact y1'
        rw [if_neg (by
          rintro (z | z)
          · exact y0 z
          · exact z y1'), nI_clamp hs] at k
        refine ls_xSize h hil hw.1 hw.2.1 hw.2.2.1 hw.2.2.2 ?_
        have hus := ls_usedN (C := A (t + p + 1)) (x := ls_rT (A (t + p + 1) f) s) hf8
        have hub := w.2.2.1 (t + p + 1) (Nat.le_refl _)
        unfold ls_used at hub
        refine ls_xLarge (sz := fun f => (A (t + p + 1) f).2.2.1) h (ls_rt2 h hr) (by omega) (ls_szs w hT (Nat.le_refl _)) hw.2.2.2 (by omega) (ls_used_le (C := A (t + p + 1)) hf8) (by omega) (fun hl => ?_) (fun hl => ?_)
        · rw [if_neg (by rw [← hus]; exact Nat.not_lt.mpr hl)] at k
          refine br_t rfl ?_
          refine ls_xFull h (by omega) (by omega) (fun hl => ?_) (fun hl => ?_)
          · rw [if_neg (by omega)] at k
            refine br_t rfl ?_
            refine ls_xRoomS h (ls_cnt w hT hC) (fun ln fs hd hu vi vs dk pa lv ss sl h => ?_)
            refine ls_xRead h hil (w := 1) (by omega) ?_
            have iTd : ∀ b, b < 4 → ls_iT R (rt (t + p + 1)) (ls_gb (R (ls_ino R (rt (t + p + 1)) f) 1) b) := fun b hb => Or.inr (Or.inr ⟨f, b, hf8, hb, rfl⟩)
            refine pk_le (A (t + p + 1) f).2.2.1 s (fun z => ?_) (fun z => ?_) rfl rfl (by omega) (by omega)
            · exact ls_xTr118 (q := 1) (e := 0) h hD hT (fun n hn => Or.inl (hC n hn)) (by omega) hf8 (by omega) hil hw.1 hw.2.1 hw.2.2.1 hw.2.2.2 (ls_dpT0 hN.2.2 hwf.2.2.2.2 z) (fun b hb => Or.inr (Or.inl (iTd b hb))) (Or.inl rfl) k
            · have s16 : s < 16 := by have := hwf.2.2.1; omega
              refine ls_xCut (q := 2) h s16 (fun r hr' hA => ?_) (fun r d ln fs hd hu vi vs dk pa lv ss sl hr' h4 hd0 d1 d2 d3 h => ?_)
              · refine ls_xTr118 (q := 1) (e := 0) h hD hT (fun n hn => Or.inl (hC n hn)) (by omega) hf8 (by omega) hil hw.1 hw.2.1 hw.2.2.1 hw.2.2.2 (ls_dpTA hN.2.2 hT.1.1 hr' hA) (fun b hb => ?_) (Or.inl rfl) k
                rw [hr' b hb]
                by_cases zz : s ≤ 4 * b
                · rw [if_pos zz]; exact Or.inl rfl
                · rw [if_neg zz]; exact Or.inr (Or.inl (iTd b hb))
              · have d0 : d ≠ 0 := by omega
                have dpB := ls_dpTB (d := d) hN.2.2 hT.1.1 hr' s16 h4 d0 d2 d3
                generalize e0 : ls_kp (s % 4) 0 (R (ls_gb r (s / 4)) 0) = w0 at *
                generalize e1 : ls_kp (s % 4) 1 (R (ls_gb r (s / 4)) 1) = w1' at *
                generalize e2 : ls_kp (s % 4) 2 (R (ls_gb r (s / 4)) 2) = w2 at *
                generalize e3 : ls_kp (s % 4) 3 (R (ls_gb r (s / 4)) 3) = w3 at *
                have ag := ls_adA (R := R) (w0 := w0) (w1 := w1') (w2 := w2) (w3 := w3) d0 d3
                have hino : ls_ino R (rt (t + p + 1)) f = 0 ∨ pl (ls_ino R (rt (t + p + 1)) f) := by
                  rcases hN.1 with z | z
                  · exact Or.inl z
                  · exact Or.inr z.1
                have cv' := ls_apC (e1 := d) (w0 := w0) (w1 := w1') (w2 := w2) (w3 := w3) hT d0 d3 (fun n hn => Or.inl (hC n hn))
                refine ls_xTr118 (q := 0) (e := d) h hD (ls_apD hT d0 d3) (fun n hn => by
                  rcases cv' n hn with z | z | z
                  · exact Or.inl z
                  · exact Or.inr z
                  · exact Or.inr z) (by omega) hf8 (by omega) hil ((ag _ 0 (by omega) hino).trans hw.1) hw.2.1 hw.2.2.1 hw.2.2.2 dpB (fun b hb => ?_) (Or.inr ⟨s / 4, by omega, (ls_gbs_s _ (by omega) d2).symm⟩) k
                by_cases e : b = s / 4
                · subst e; exact Or.inr (Or.inr (ls_gbs_s _ (by omega) d2))
                · rw [ls_gbs_n _ (by omega) hb d2 e, hr' b hb]
                  by_cases zz : s ≤ 4 * b
                  · rw [if_pos zz]; exact Or.inl rfl
                  · rw [if_neg zz]; exact Or.inr (Or.inl ((ls_agT ag hT.1 hr).mpr (iTd b hb)))
          · rw [if_pos hl] at k; exact br_f (by decide) (k _ hX)
        · rw [if_pos (by rw [← hus]; exact hl)] at k; exact br_f (by decide) (k _ hX)
      · rw [if_pos (Or.inr y1')] at k; exact k _ hX
theorem ls_xRename {x y : Int32} (w : ls_CW (fl, bl, tl, t, p, hp, mo, A, M)) (hX : ls_RX (fl, bl, tl, t, p, hp, mo, A, M) u)
    (k : ∀ u', ls_RX (ls_c2 (fl, bl, tl, t, p, hp, mo, A, M) x y (ls_fRename (fl, bl, tl, t, p, hp, mo, A, M))).2 u' → post (ls_c2 (fl, bl, tl, t, p, hp, mo, A, M) x y (ls_fRename (fl, bl, tl, t, p, hp, mo, A, M))).1 u') : wpX_rename post u x y := by
  refine ls_RXe (Q := fun u => wpX_rename post u x y) hX ?_
  clear hX
  intro sF sC sH sV np D R pl K rt ln fs hd hu vi vs dk pa lv ss sl h hD hT hC hX
  unfold wpX_rename
  refine ls_pre2 w h hX k (fun a b m0 ea ha eb hb k' => ?_)
  clear k
  subst ea eb
  have k := k'
  clear k'
  have w1 := w.1
  have a8 : a < 8 := by omega
  have b8 : b < 8 := by omega
  have hwa := ls_nif w hT (k := t + p + 1) (f := a) (by omega) a8
  have hwb := ls_nif w hT (k := t + p + 1) (f := b) (by omega) b8
  have hr := (hT.2.1 (t + p + 1) (Nat.le_refl _)).1
  have hNa := (hT.2.1 (t + p + 1) (Nat.le_refl _)).2 a a8
  have hial : ls_ino R (rt (t + p + 1)) a < 256 := ls_gb_lt _ _
  have hibl : ls_ino R (rt (t + p + 1)) b < 256 := ls_gb_lt _ _
  refine ls_xCur h (by omega) hD ?_
  refine ls_xIno h (ls_rt2 h hr) (f := a) a8 ?_
  refine ls_xPres h hial hwa.1 hwa.2.1 hwa.2.2.1 hwa.2.2.2 ?_
  unfold ls_fRename at k
  dsimp only at k
  refine pk_eq (A (t + p + 1) a).1 0 (fun p0 => ?_) (fun p0 => ?_) rfl rfl (by omega) (by decide)
  · rw [if_pos p0] at k; exact k _ hX
  · rw [if_neg p0] at k
    refine pk_eq a b (fun e => ?_) (fun ne => ?_) rfl rfl (by omega) (by omega)
    · rw [if_pos e] at k; exact k _ hX
    · rw [if_neg ne] at k
      refine ls_xFull h (by omega) (by omega) (fun hl => ?_) (fun hl => ?_)
      · rw [if_neg (by omega)] at k
        refine br_t rfl ?_
        refine ls_xRoomS h (ls_cnt w hT hC) (fun ln fs hd hu vi vs dk pa lv ss sl h => ?_)
        refine ls_xIno h (ls_rt2 h hr) (f := b) b8 ?_
        refine ls_xMovedS (q := 2) h hibl hial hwb.1 hwb.2.1 hwb.2.2.1 hwb.2.2.2 hwa.1 hwa.2.1 hwa.2.2.1 hwa.2.2.2 (fun iA ln fs hd hu vi vs dk pa lv ss sl A1 A2 A3 h => ?_)
        have a0 : iA ≠ 0 := by omega
        have ag := ls_adA (R := R) (w0 := nI (ls_hd 1 (((A (t + p + 1) b).2.1 + 1) % 16) (A (t + p + 1) a).2.2.1)) (w1 := R (ls_ino R (rt (t + p + 1)) a) 1) (w2 := nI b) (w3 := 0) a0 A3
        have hino : ls_ino R (rt (t + p + 1)) a = 0 ∨ pl (ls_ino R (rt (t + p + 1)) a) := by
          rcases hNa.1 with z | z
          · exact Or.inl z
          · exact Or.inr z.1
        refine ls_xGen h hial ((ag _ 0 (by omega) hino).trans hwa.1) hwa.2.1 hwa.2.2.1 hwa.2.2.2 ?_
        refine ls_xAppIS (q := 1) (p := 0) (g := (A (t + p + 1) a).2.1) (s := 0) h (by omega) hwa.2.2.1 (by omega) (fun iB ln fs hd hu vi vs dk pa lv ss sl B1 B2 B3 h => ?_)
        refine ls_xCommit (q := 0) h (ls_rt2 h (K := ls_u (ls_u K iA 2) iB 2) ?_) b8 a8 (by omega) (fun m u' m1 m2 m3 h' => ?_)
        · exact ls_agO (ls_adS B3) (ls_agO (ls_adS A3) hr)
        · obtain ⟨K', t1, t2⟩ := ls_two (fA := nI b) (fB := nI a) (p1 := 1) (g1 := ((A (t + p + 1) b).2.1 + 1) % 16) (p2 := 0) (g2 := (A (t + p + 1) a).2.1) (x := a) (y := b) hT hC hNa.2.2 (ls_dp0 hT.1.1) (fun j hj => Or.inr (Or.inr (Or.inr ⟨a, j, a8, hj, rfl⟩))) (fun j _ => Or.inl (ls_gb0 j)) b8 a8 (fun z => ne z.symm) (Or.inr ⟨rfl, rfl⟩) A1 A2 A3 B1 B2 B3 m1 m3
          have kk := k _ (ls_fin h' hD t1 t2)
          obtain ⟨sF, sC, sH, sV, fl, bl, tl, ln, fs, hd, hu, vi, vs, tc, pc, np, mo, dk, pa, lv, ss, sl, op⟩ := u'
          exact kk
      · rw [if_pos hl] at k; exact br_f (by decide) (k _ hX)
theorem ls_xExch {x y : Int32} (w : ls_CW (fl, bl, tl, t, p, hp, mo, A, M)) (hX : ls_RX (fl, bl, tl, t, p, hp, mo, A, M) u)
    (k : ∀ u', ls_RX (ls_c2 (fl, bl, tl, t, p, hp, mo, A, M) x y (ls_fExch (fl, bl, tl, t, p, hp, mo, A, M))).2 u' → post (ls_c2 (fl, bl, tl, t, p, hp, mo, A, M) x y (ls_fExch (fl, bl, tl, t, p, hp, mo, A, M))).1 u') : wpX_exchange post u x y := by
  refine ls_RXe (Q := fun u => wpX_exchange post u x y) hX ?_
  clear hX
  intro sF sC sH sV np D R pl K rt ln fs hd hu vi vs dk pa lv ss sl h hD hT hC hX
  unfold wpX_exchange
  refine ls_pre2 w h hX k (fun a b m0 ea ha eb hb k' => ?_)
  clear k
  subst ea eb
  have k := k'
  clear k'
  have w1 := w.1
  have a8 : a < 8 := by omega
  have b8 : b < 8 := by omega
  have hwa := ls_nif w hT (k := t + p + 1) (f := a) (by omega) a8
  have hwb := ls_nif w hT (k := t + p + 1) (f := b) (by omega) b8
  have hr := (hT.2.1 (t + p + 1) (Nat.le_refl _)).1
  have hNa := (hT.2.1 (t + p + 1) (Nat.le_refl _)).2 a a8
  have hNb := (hT.2.1 (t + p + 1) (Nat.le_refl _)).2 b b8
  have hial : ls_ino R (rt (t + p + 1)) a < 256 := ls_gb_lt _ _
  have hibl : ls_ino R (rt (t + p + 1)) b < 256 := ls_gb_lt _ _
  refine ls_xCur h (by omega) hD ?_
  refine ls_xIno h (ls_rt2 h hr) (f := a) a8 ?_
  refine ls_xIno h (ls_rt2 h hr) (f := b) b8 ?_
  refine ls_xPres h hial hwa.1 hwa.2.1 hwa.2.2.1 hwa.2.2.2 ?_
  unfold ls_fExch at k
  dsimp only at k
  refine pk_eq (A (t + p + 1) a).1 0 (fun p0 => ?_) (fun p0 => ?_) rfl rfl (by omega) (by decide)
  · rw [if_pos p0] at k; exact k _ hX
  · rw [if_neg p0] at k
    refine ls_xPres h hibl hwb.1 hwb.2.1 hwb.2.2.1 hwb.2.2.2 ?_
    refine pk_eq (A (t + p + 1) b).1 0 (fun p1 => ?_) (fun p1 => ?_) rfl rfl (by omega) (by decide)
    · rw [if_pos p1] at k; exact k _ hX
    rw [if_neg p1] at k
    refine pk_eq a b (fun e => ?_) (fun ne => ?_) rfl rfl (by omega) (by omega)
    · rw [if_pos e] at k; exact k _ hX
    · rw [if_neg ne] at k
      refine ls_xFull h (by omega) (by omega) (fun hl => ?_) (fun hl => ?_)
      · rw [if_neg (by omega)] at k
        refine br_t rfl ?_
        refine ls_xRoomS h (ls_cnt w hT hC) (fun ln fs hd hu vi vs dk pa lv ss sl h => ?_)
        refine ls_xMovedS (q := 2) h hial hibl hwa.1 hwa.2.1 hwa.2.2.1 hwa.2.2.2 hwb.1 hwb.2.1 hwb.2.2.1 hwb.2.2.2 (fun iA ln fs hd hu vi vs dk pa lv ss sl A1 A2 A3 h => ?_)
        have a0 : iA ≠ 0 := by omega
        have ag := ls_adA (R := R) (w0 := nI (ls_hd 1 (((A (t + p + 1) a).2.1 + 1) % 16) (A (t + p + 1) b).2.2.1)) (w1 := R (ls_ino R (rt (t + p + 1)) b) 1) (w2 := nI a) (w3 := 0) a0 A3
        have hino : ∀ f, f < 8 → ls_ino R (rt (t + p + 1)) f = 0 ∨ pl (ls_ino R (rt (t + p + 1)) f) := by
          intro f hf
          rcases ls_HCi hT.1 hr hf with z | z
          · exact Or.inl z
          · exact Or.inr z.1
        refine ls_xMovedS (q := 1) h hibl hial ((ag _ 0 (by omega) (hino b b8)).trans hwb.1) hwb.2.1 hwb.2.2.1 hwb.2.2.2 ((ag _ 0 (by omega) (hino a a8)).trans hwa.1) hwa.2.1 hwa.2.2.1 hwa.2.2.2 (fun iB ln fs hd hu vi vs dk pa lv ss sl B1 B2 B3 h => ?_)
        rw [ag _ 1 (by omega) (hino a a8)] at h
        refine ls_xCommit (q := 0) h (ls_rt2 h (K := ls_u (ls_u K iA 2) iB 2) ?_) a8 b8 (by omega) (fun m u' m1 m2 m3 h' => ?_)
        · exact ls_agO (ls_adS B3) (ls_agO (ls_adS A3) hr)
        · obtain ⟨K', t1, t2⟩ := ls_two (fA := nI a) (fB := nI b) (p1 := 1) (g1 := ((A (t + p + 1) a).2.1 + 1) % 16) (p2 := 1) (g2 := ((A (t + p + 1) b).2.1 + 1) % 16) (x := a) (y := b) hT hC hNb.2.2 hNa.2.2 (fun j hj => Or.inr (Or.inr (Or.inr ⟨b, j, b8, hj, rfl⟩))) (fun j hj => Or.inr (Or.inr (Or.inr ⟨a, j, a8, hj, rfl⟩))) a8 b8 ne (Or.inl ⟨rfl, rfl⟩) A1 A2 A3 B1 B2 B3 m1 m3
          have kk := k _ (ls_fin h' hD t1 t2)
          obtain ⟨sF, sC, sH, sV, fl, bl, tl, ln, fs, hd, hu, vi, vs, tc, pc, np, mo, dk, pa, lv, ss, sl, op⟩ := u'
          exact kk
      · rw [if_pos hl] at k; exact br_f (by decide) (k _ hX)
end
end
section
/-! ===== checkpoints, crashes, mounts of the component ===== -/
theorem ls_Glow {D : Nat → Int32} {R : Nat → Nat → Int32} {pl : Nat → Prop} {ln fs hd hu vi vs : Nat} {dk : Nat → Int32} {P S V : Nat → Nat} {j : Nat} {x : Int32} (g : ls_G D R pl ln fs hd hu vi vs dk P S V) (h4 : 4 ≤ j) (h32 : j < 32) : ls_G (upd D j x) R pl ln fs hd hu vi vs (upd dk j x) P S V := by
  obtain ⟨⟨a, b, c, d, e, f, i⟩, g2, g3, g4, g5⟩ := g
  refine ⟨⟨a, b, c, d, e, fun n hn h0 => ?_, i⟩, g2, ?_, g4, fun i hi => ?_⟩
  · have gg := f n hn h0
    refine ⟨gg.1, gg.2.1, gg.2.2.1, gg.2.2.2.1, gg.2.2.2.2.1, gg.2.2.2.2.2.1, ?_⟩
    have q := gg.2.2.2.2.2.2
    have g1 := gg.1
    unfold ls_sn at q ⊢
    rw [pk_un (by unfold ls_sa; omega)]
    exact q
  · rw [← g3]
    refine ls_rd_ext (fun n w hn hw => ?_)
    by_cases h0 : P n = 0
    · exact pk_un (by omega)
    · have g1 := (f n hn h0).1
      exact pk_un (by omega)
  · by_cases z : i = j
    · subst z; rw [pk_us, pk_us]
    · rw [pk_un z, pk_un z]; exact g5 i hi
section
variable {sF sC sH sV fl bl tl tc pc np mo : Int32} {op : Nat → Int32} {D : Nat → Int32} {R : Nat → Nat → Int32} {pl : Nat → Prop} {q : Nat} {u : SX}
theorem ls_xWC {post : SX → Prop} {n : Nat} {r : Int32} (h : ls_HX sF sC sH sV fl bl tl tc pc (nI n) mo op D R pl q u) (hn : n ≤ 1)
    (k : ∀ (ln fs hd hu vi vs : Int32) (dk pa lv ss sl : Nat → Int32), ls_HX sF sC sH sV fl bl tl tc pc (nI (1 - n)) mo op (upd (upd D (4 * (2 - n)) r) (4 * (2 - n) + 1) 1) R pl q (sF, sC, sH, sV, fl, bl, tl, ln, fs, hd, hu, vi, vs, tc, pc, (nI (1 - n)), mo, dk, pa, lv, ss, sl, op) → post (sF, sC, sH, sV, fl, bl, tl, ln, fs, hd, hu, vi, vs, tc, pc, (nI (1 - n)), mo, dk, pa, lv, ss, sl, op)) : wpX_writeCheckpoint post u r := by
  refine ls_HXe (Q := fun u => wpX_writeCheckpoint post u r) h ?_
  intro ln fs hd hu vi vs dk P lv S V g b
  unfold wpX_writeCheckpoint
  refine nm_r (e' := nI (1 - n)) (pk_sub (a := 1) hn) (nm_r (e' := nI (4 * (2 - n))) ?_ ?_)
  · rw [show (1 : Int32) + nI (1 - n) = nI (1 + (1 - n)) from nI_add 1 _, ls_4]
    exact congrArg nI (by omega)
  · rw [nI_1, nI_clamp (by omega), nI_clamp (by omega)]
    refine ⟨vp_in_nI (by omega) (by decide), nm_e ⟨vp_in_nI (by omega) (by decide), nm_e ?_⟩⟩
    exact k _ _ _ _ _ _ _ _ _ _ _ ⟨_, _, _, _, _, _, _, _, _, _, _, rfl, ls_Glow (ls_Glow g (by omega) (by omega)) (by omega) (by omega), b⟩
theorem ls_xTear {post : SX → Prop} {n : Nat} (h : ls_HX sF sC sH sV fl bl tl tc pc np mo op D R pl q u) (hn : n ≤ 1)
    (k : ∀ (ln fs hd hu vi vs : Int32) (dk pa lv ss sl : Nat → Int32), ls_HX sF sC sH sV fl bl tl tc pc np mo op (upd (upd D (4 * (1 + n)) 0) (4 * (1 + n) + 1) 0) R pl q (sF, sC, sH, sV, fl, bl, tl, ln, fs, hd, hu, vi, vs, tc, pc, np, mo, dk, pa, lv, ss, sl, op) → post (sF, sC, sH, sV, fl, bl, tl, ln, fs, hd, hu, vi, vs, tc, pc, np, mo, dk, pa, lv, ss, sl, op)) : wpX_tearPlace post u (nI n) := by
  refine ls_HXe (Q := fun u => wpX_tearPlace post u (nI n)) h ?_
  intro ln fs hd hu vi vs dk P lv S V g b
  unfold wpX_tearPlace
  refine nm_r (e' := nI (4 * (1 + n))) ?_ ?_
  · rw [show (1 : Int32) + nI n = nI (1 + n) from nI_add 1 _, ls_4]
  · rw [nI_1, nI_clamp (by omega), nI_clamp (by omega)]
    refine ⟨vp_in_nI (by omega) (by decide), nm_e ⟨vp_in_nI (by omega) (by decide), nm_e ?_⟩⟩
    exact k _ _ _ _ _ _ _ _ _ _ _ ⟨_, _, _, _, _, _, _, _, _, _, _, rfl, ls_Glow (ls_Glow g (by omega) (by omega)) (by omega) (by omega), b⟩
end
def ls_r2 (rt : Nat → Nat) (a b : Nat) : Nat → Nat := fun k => if k = 0 then a else if k = 1 then b else rt k
theorem ls_r2op (rt : Nat → Nat) (a b : Nat) : (fun j => rt (j + 2)) = fun j => ls_r2 rt a b (j + 2) := by
  funext j
  unfold ls_r2
  rw [if_neg (by omega), if_neg (by omega)]
section
variable {R : Nat → Nat → Int32} {pl : Nat → Prop} {K rt : Nat → Nat} {N : Nat} {A : Nat → Nat → ls_FR} {M : Nat → Nat × Nat}
theorem ls_TRle (hT : ls_TR R pl K rt N A M) {N' : Nat} (h : N' ≤ N) : ls_TR R pl K rt N' A M :=
  ⟨hT.1, fun k hk => hT.2.1 k (by omega), fun k k1 k2 => hT.2.2.1 k k1 (by omega), fun i hi => hT.2.2.2 i (by omega)⟩
theorem ls_TR2 (hT : ls_TR R pl K rt N A M) {N' a b : Nat} {C0 C1 : Nat → ls_FR} (h : N' ≤ N) (ha : ls_RO pl K a ∧ ls_VX R pl K a C0) (hb : ls_RO pl K b ∧ ls_VX R pl K b C1) (hbb : N' = 0 ∨ b = rt 1) : ls_TR R pl K (ls_r2 rt a b) N' (ls_cp2 A C0 C1) M := by
  refine ⟨hT.1, fun k hk => ?_, fun k k1 k2 => ?_, fun i hi => ?_⟩
  · unfold ls_r2 ls_cp2
    by_cases z : k = 0
    · rw [if_pos z, if_pos z]; exact ha
    · rw [if_neg z, if_neg z]
      by_cases y : k = 1
      · rw [if_pos y, if_pos y]; exact hb
      · rw [if_neg y, if_neg y]; exact hT.2.1 k (by omega)
  · have e : b = rt 1 := by rcases hbb with z | z; omega; exact z
    have e1 : ls_r2 rt a b (k + 1) = rt (k + 1) := by unfold ls_r2; rw [if_neg (by omega), if_neg (by omega)]
    have e2 : ls_r2 rt a b k = rt k := by
      unfold ls_r2
      rw [if_neg (by omega)]
      by_cases y : k = 1
      · rw [if_pos y, e, y]
      · rw [if_neg y]
    rw [e1, e2]
    exact hT.2.2.1 k k1 (by omega)
  · have e1 : ls_r2 rt a b (i + 2) = rt (i + 2) := by unfold ls_r2; rw [if_neg (by omega), if_neg (by omega)]
    rw [e1]
    exact hT.2.2.2 i (by omega)
theorem ls_VE0 (hT : ls_TR R pl K rt N A M) : ls_RO pl K 0 ∧ ls_VX R pl K 0 ls_E0 := by
  refine ⟨Or.inl rfl, fun f hf => ?_⟩
  rw [ls_ino0 hT.1.1 hf]
  refine ⟨Or.inl rfl, hT.1.1 0 (by omega), ?_⟩
  rw [hT.1.1 1 (by omega)]
  exact ls_dp0 hT.1.1
end
section
variable {sF sC sH sV : Int32} {fl bl tl t p hp mo np q : Nat} {A : Nat → Nat → ls_FR} {M : Nat → Nat × Nat} {u : SX} {D : Nat → Int32} {R : Nat → Nat → Int32} {pl : Nat → Prop} {K rt : Nat → Nat} {ln fs hd hu vi vs : Int32} {dk pa lv ss sl : Nat → Int32}
theorem ls_xDur {post : Int32 → SX → Prop} {a : Nat} (h : ls_HX sF sC sH sV (nI fl) (nI bl) (nI tl) (nI t) (nI p) (nI np) (nI mo) (ls_f (fun j => rt (j + 2))) D R pl 0 (sF, sC, sH, sV, (nI fl), (nI bl), (nI tl), ln, fs, hd, hu, vi, vs, (nI t), (nI p), (nI np), (nI mo), dk, pa, lv, ss, sl, (ls_f (fun j => rt (j + 2))))) (ha : a < 2 ^ 31) (hp : p ≤ 24) (k : ls_HX sF sC sH sV (nI fl) (nI bl) (nI tl) (nI (t + ls_mn a p)) (nI (p - ls_mn a p)) (nI np) (nI mo) (ls_f (fun j => rt (j + 2))) D R pl 0 (sF, sC, sH, sV, (nI fl), (nI bl), (nI tl), ln, fs, hd, hu, vi, vs, (nI (t + ls_mn a p)), (nI (p - ls_mn a p)), (nI np), (nI mo), dk, pa, lv, ss, sl, (ls_f (fun j => rt (j + 2)))) → post (nI (ls_mn a p)) (sF, sC, sH, sV, (nI fl), (nI bl), (nI tl), ln, fs, hd, hu, vi, vs, (nI (t + ls_mn a p)), (nI (p - ls_mn a p)), (nI np), (nI mo), dk, pa, lv, ss, sl, (ls_f (fun j => rt (j + 2))))) : wpX_makeDurable post (sF, sC, sH, sV, (nI fl), (nI bl), (nI tl), ln, fs, hd, hu, vi, vs, (nI t), (nI p), (nI np), (nI mo), dk, pa, lv, ss, sl, (ls_f (fun j => rt (j + 2)))) (nI a) := by
  have kk := k (ls_HXf h)
  unfold wpX_makeDurable
  refine pk_le p a (fun z => ?_) (fun z => ?_) rfl rfl (by omega) ha
  · rw [show ls_mn a p = p from if_pos z] at kk
    unfold wX_makeDurable_16
    exact nm_r (nI_add t p) (nm_r (pk_sub (Nat.le_refl p)) kk)
  · rw [show ls_mn a p = a from if_neg (by omega)] at kk
    unfold wX_makeDurable_16
    exact nm_r (nI_add t a) (nm_r (pk_sub (by omega)) kk)
theorem ls_RXfl {a : Nat} (ha : a ≤ p) (h : ls_HX sF sC sH sV (nI fl) (nI bl) (nI tl) (nI (t + a)) (nI (p - a)) (nI np) (nI mo) (ls_f (fun j => rt (j + 2))) D R pl 0 u) (hD : ls_DD D np hp rt) (hT : ls_TR R pl K rt (t + p) A M) (hC : ls_CV R pl rt (t + p)) : ls_RX (ls_fl (fl, bl, tl, t, p, hp, mo, A, M) a).2 u := by
  show ls_RX (fl, bl, tl, t + a, p - a, hp, mo, A, M) u
  refine ⟨sF, sC, sH, sV, np, D, R, pl, K, rt, h, hD, ?_, ?_⟩
  · rw [show t + a + (p - a) = t + p from by omega]; exact hT
  · rw [show t + a + (p - a) = t + p from by omega]; exact hC
theorem ls_mn_id {a b : Nat} (h : a ≤ b) : ls_mn a b = a := by
  unfold ls_mn
  split <;> omega
/-- the sweep, and what it leaves -/
theorem ls_xSw {post : SX → Prop} (h : ls_HX sF sC sH sV (nI fl) (nI bl) (nI tl) (nI t) (nI p) (nI np) (nI mo) (ls_f (fun j => rt (j + 2))) D R pl 0 u) (ht : t + p ≤ 24) (hp2 : hp < 2) (hD : ls_DD D np hp rt) (hT : ls_TR R pl K rt (t + p) A M) (k : ∀ u', ls_RX (fl, bl, tl, t, p, hp, mo, A, M) u' → post u') : wpX_sweep post u := by
  refine ls_xSweep h ht hD.1 hD.2.2.1 hD.2.2.2.2.1 hD.2.2.2.2.2.1 hp2 hD.2.2.2.2.2.2 hT (fun u' R' pl' h' hT' hC' => ?_)
  exact k u' ⟨sF, sC, sH, sV, np, D, R', pl', K, rt, h', hD, hT', hC'⟩
end
section
variable {fl bl tl t p hp mo : Nat} {A : Nat → Nat → ls_FR} {M : Nat → Nat × Nat} {u : SX} {post : Int32 → SX → Prop}
theorem ls_xFlush {x : Int32} (w : ls_CW (fl, bl, tl, t, p, hp, mo, A, M)) (hX : ls_RX (fl, bl, tl, t, p, hp, mo, A, M) u)
    (k : ∀ u', ls_RX (ls_cFlush (fl, bl, tl, t, p, hp, mo, A, M) x).2 u' → post (ls_cFlush (fl, bl, tl, t, p, hp, mo, A, M) x).1 u') : wpX_flush post u x := by
  refine ls_RXe (Q := fun u => wpX_flush post u x) hX ?_
  clear hX
  intro sF sC sH sV np D R pl K rt ln fs hd hu vi vs dk pa lv ss sl h hD hT hC hX
  have w1 := w.1
  unfold wpX_flush
  unfold ls_cFlush at k
  dsimp only at k
  refine pk_eq mo 0 (fun m0 => ?_) (fun m0 => ?_) rfl rfl (by omega) (by decide)
  · rw [if_pos m0] at k; exact k _ hX
  · rw [if_neg m0] at k
    by_cases x0 : x < 0
    · rw [if_pos x0] at k
      exact br_f (Int32.not_le.mpr x0) (k _ hX)
    · rw [if_neg x0] at k
      refine br_t (Int32.not_lt.mp x0) ?_
      obtain ⟨a, ha, rfl⟩ := nI_of x0
      rw [nI_clamp ha] at k
      refine ls_xDur h ha (by omega) (fun h' => ?_)
      exact k _ (ls_RXfl (ls_mn_le a p) h' hD hT hC)
theorem ls_xFs24 {sF sC sH sV : Int32} {np f : Nat} {D : Nat → Int32} {R : Nat → Nat → Int32} {pl : Nat → Prop} {K rt : Nat → Nat} {ln fs hd hu vi vs : Int32} {dk pa lv ss sl : Nat → Int32} (h : ls_HX sF sC sH sV (nI fl) (nI bl) (nI tl) (nI t) (nI p) (nI np) (nI mo) (ls_f (fun j => rt (j + 2))) D R pl 0 (sF, sC, sH, sV, (nI fl), (nI bl), (nI tl), ln, fs, hd, hu, vi, vs, (nI t), (nI p), (nI np), (nI mo), dk, pa, lv, ss, sl, (ls_f (fun j => rt (j + 2))))) (hT : ls_TR R pl K rt (t + p) A M) (ht : t + p ≤ 24) (hf : f < 8)
    (k : wpX_makeDurable (fun r u => post r u) (sF, sC, sH, sV, (nI fl), (nI bl), (nI tl), ln, fs, hd, hu, vi, vs, (nI t), (nI p), (nI np), (nI mo), dk, pa, lv, ss, sl, (ls_f (fun j => rt (j + 2)))) (nI (ls_la M t f p)) → wpX_makeDurable post (sF, sC, sH, sV, (nI fl), (nI bl), (nI tl), ln, fs, hd, hu, vi, vs, (nI t), (nI p), (nI np), (nI mo), dk, pa, lv, ss, sl, (ls_f (fun j => rt (j + 2)))) (nI (ls_la M t f p))) (kd : wpX_makeDurable post (sF, sC, sH, sV, (nI fl), (nI bl), (nI tl), ln, fs, hd, hu, vi, vs, (nI t), (nI p), (nI np), (nI mo), dk, pa, lv, ss, sl, (ls_f (fun j => rt (j + 2)))) (nI (ls_la M t f p))) :
    ∀ d i n, i + d = 24 → d < n → wX_fsync_24 post (nI f) sF sC sH sV (nI fl) (nI bl) (nI tl) ln fs hd hu vi vs (nI t) (nI p) (nI np) (nI mo) dk pa lv ss sl (ls_f (fun j => rt (j + 2))) n (nI (ls_la M t f (ls_mn (i - t) p))) (nI i) := by
  intro d
  induction d with
  | zero =>
    intro i n hi hn
    obtain ⟨n, rfl⟩ : ∃ n', n = n' + 1 := ⟨n - 1, by omega⟩
    obtain rfl : i = 24 := by omega
    rw [show ls_mn (24 - t) p = p from if_pos (by omega)]
    exact br_t (nI_le (a := 24) (by omega) (by decide)) kd
  | succ d ih =>
    intro i n hi hn
    obtain ⟨n, rfl⟩ : ∃ n', n = n' + 1 := ⟨n - 1, by omega⟩
    have ihh := ih (i + 1) n (by omega) (by omega)
    refine br_f (nI_ge (b := 24) (by omega) (by decide)) (pk_lt i t (fun z => ?_) (fun z => ?_) rfl rfl (by omega) (by omega))
    · rw [show i - t = 0 from by omega]
      rw [show i + 1 - t = 0 from by omega] at ihh
      exact nm_r (nI_1 i) ihh
    · refine pk_le (t + p) i (fun y => ?_) (fun y => ?_) (nI_add t p) rfl (by omega) (by omega)
      · rw [show ls_mn (i - t) p = p from if_pos (by omega)]
        rw [show ls_mn (i + 1 - t) p = p from if_pos (by omega)] at ihh
        exact nm_r (nI_1 i) ihh
      · rw [show ls_mn (i - t) p = i - t from if_neg (by omega)]
        rw [ls_mn_id (show i + 1 - t ≤ p by omega), show i + 1 - t = i - t + 1 from by omega] at ihh
        have hm := hT.2.2.2 i (by omega) f hf
        refine ⟨vp_in_nI (by omega) (by decide), ?_⟩
        rw [nI_clamp (show i < 2 ^ 31 by omega)]
        refine ls_xRead h (ls_rt2 h (hT.2.1 (i + 2) (by omega)).1) (w := 2) (by omega) ?_
        refine br_c (fun e => ?_) (fun e => ?_)
        · have : ls_la M t f (i - t + 1) = ls_la M t f (i - t) := by
            show (if f ≠ (M (t + (i - t))).1 ∧ f ≠ (M (t + (i - t))).2 then _ else _) = _
            rw [show t + (i - t) = i from by omega]
            exact if_pos (hm.mp e)
          rw [this] at ihh
          exact nm_r (nI_1 i) ihh
        · have : ls_la M t f (i - t + 1) = i - t + 1 := by
            show (if f ≠ (M (t + (i - t))).1 ∧ f ≠ (M (t + (i - t))).2 then _ else _) = _
            rw [show t + (i - t) = i from by omega]
            exact if_neg (fun z => e (hm.mpr z))
          rw [this] at ihh
          refine nm_r (e' := nI (i - t + 1)) ?_ (nm_r (nI_1 i) ihh)
          rw [pk_sub (by omega), nI_1]
theorem ls_xFsync {x : Int32} (w : ls_CW (fl, bl, tl, t, p, hp, mo, A, M)) (hX : ls_RX (fl, bl, tl, t, p, hp, mo, A, M) u)
    (k : ∀ u', ls_RX (ls_c1 (fl, bl, tl, t, p, hp, mo, A, M) x (ls_fFsync (fl, bl, tl, t, p, hp, mo, A, M))).2 u' → post (ls_c1 (fl, bl, tl, t, p, hp, mo, A, M) x (ls_fFsync (fl, bl, tl, t, p, hp, mo, A, M))).1 u') : wpX_fsync post u x := by
  refine ls_RXe (Q := fun u => wpX_fsync post u x) hX ?_
  clear hX
  intro sF sC sH sV np D R pl K rt ln fs hd hu vi vs dk pa lv ss sl h hD hT hC hX
  have w1 := w.1
  unfold wpX_fsync
  refine ls_pre1 w h hX k (fun f m0 ef hf k' => ?_)
  clear k
  subst ef
  have hla := ls_la_le M t f p
  have e0 : ls_la M t f (ls_mn (0 - t) p) = 0 := by
    have e1 : ls_mn (0 - t) p = 0 := by rw [Nat.zero_sub]; exact ls_mn_id (Nat.zero_le p)
    rw [e1]
    rfl
  suffices main : wpX_makeDurable post (sF, sC, sH, sV, (nI fl), (nI bl), (nI tl), ln, fs, hd, hu, vi, vs, (nI t), (nI p), (nI np), (nI mo), dk, pa, lv, ss, sl, (ls_f (fun j => rt (j + 2)))) (nI (ls_la M t f p)) by
    have y := ls_xFs24 h hT (by omega) (by omega) (fun z => z) main 24 0 25 (by omega) (by omega)
    rw [e0] at y
    exact ⟨25, y⟩
  refine ls_xDur h (by omega) (by omega) (fun h' => ?_)
  rw [ls_mn_id hla] at h' ⊢
  exact k' _ (ls_RXfl hla h' hD hT hC)
theorem ls_xCheck (w : ls_CW (fl, bl, tl, t, p, hp, mo, A, M)) (hX : ls_RX (fl, bl, tl, t, p, hp, mo, A, M) u)
    (k : ∀ u', ls_RX (ls_cCheck (fl, bl, tl, t, p, hp, mo, A, M)).2 u' → post (ls_cCheck (fl, bl, tl, t, p, hp, mo, A, M)).1 u') : wpX_checkpoint post u := by
  refine ls_RXe (Q := fun u => wpX_checkpoint post u) hX ?_
  clear hX
  intro sF sC sH sV np D R pl K rt ln fs hd hu vi vs dk pa lv ss sl h hD hT hC hX
  have w1 := w.1
  unfold wpX_checkpoint
  unfold ls_cCheck at k
  dsimp only at k
  refine pk_eq mo 0 (fun m0 => ?_) (fun m0 => ?_) rfl rfl (by omega) (by decide)
  · rw [if_pos m0] at k; exact k _ hX
  · rw [if_neg m0] at k
    refine nm_r (nI_add t p) ?_
    refine ls_xCur h (by omega) hD ?_
    refine ls_xWC h hD.1 (fun ln fs hd hu vi vs dk pa lv ss sl h => ?_)
    have h' := ls_HXf (tc' := nI 0) (pc' := nI 0) (np' := nI (1 - np)) (mo' := nI mo) (op' := ls_f (fun j => rt (j + 2))) (lv' := lv) h
    rw [ls_r2op rt (rt 1) (rt (t + p + 1))] at h'
    obtain ⟨d1, d2, d3, d4, d5, d6, d7⟩ := hD
    refine ls_xSw (t := 0) (p := 0) (hp := 1) (A := ls_cp2 A (A 1) (A (t + p + 1))) (M := M) h' (by omega) (by omega) ?_ (ls_TR2 hT (by omega) (hT.2.1 1 (by omega)) (hT.2.1 (t + p + 1) (by omega)) (Or.inl rfl)) (fun u' hu' => ?_)
    · rcases (by omega : np = 0 ∨ np = 1) with rfl | rfl
      · refine ⟨by omega, fun w hw => ?_, ?_, ?_, ?_, ?_, fun z => by omega⟩
        · rw [pk_un (by omega), pk_un (by omega)]; exact d2 w hw
        · rw [pk_un (by omega)]; exact pk_us
        · exact pk_us
        · rw [pk_un (by omega), pk_un (by omega)]; exact d3
        · rw [pk_un (by omega), pk_un (by omega)]; exact d4
      · refine ⟨by omega, fun w hw => ?_, ?_, ?_, ?_, ?_, fun z => by omega⟩
        · rw [pk_un (by omega), pk_un (by omega)]; exact d2 w hw
        · rw [pk_un (by omega)]; exact pk_us
        · exact pk_us
        · rw [pk_un (by omega), pk_un (by omega)]; exact d3
        · rw [pk_un (by omega), pk_un (by omega)]; exact d4
    · have kk := k u' hu'
      obtain ⟨sF, sC, sH, sV, fl, bl, tl, ln, fs, hd, hu, vi, vs, tc, pc, np, mo, dk, pa, lv, ss, sl, op⟩ := u'
      exact kk
theorem ls_xClean {x : Int32} (w : ls_CW (fl, bl, tl, t, p, hp, mo, A, M)) (hX : ls_RX (fl, bl, tl, t, p, hp, mo, A, M) u)
    (k : ∀ u', ls_RX (fl, bl, tl, t, p, hp, mo, A, M) u' → post (ls_cClean (fl, bl, tl, t, p, hp, mo, A, M) x) u') : wpX_clean post u x := by
  refine ls_RXe (Q := fun u => wpX_clean post u x) hX ?_
  clear hX
  intro sF sC sH sV np D R pl K rt ln fs hd hu vi vs dk pa lv ss sl h hD hT hC hX
  have w1 := w.1
  unfold wpX_clean
  unfold ls_cClean at k
  dsimp only at k
  refine pk_eq mo 0 (fun m0 => ?_) (fun m0 => ?_) rfl rfl (by omega) (by decide)
  · rw [if_pos m0] at k; exact k _ hX
  · rw [if_neg m0] at k
    by_cases x0 : x < 0
    · rw [if_pos x0] at k
      exact br_f (Int32.not_le.mpr x0) (k _ hX)
    · rw [if_neg x0] at k
      refine br_t (Int32.not_lt.mp x0) ?_
      exact ls_xCleanM h (fun u' h' => k u' ⟨sF, sC, sH, sV, np, D, R, pl, K, rt, h', hD, hT, hC⟩)
theorem ls_xCrash {x : Int32} (w : ls_CW (fl, bl, tl, t, p, hp, mo, A, M)) (hX : ls_RX (fl, bl, tl, t, p, hp, mo, A, M) u)
    (k : ∀ u', ls_RX (ls_cCrash (fl, bl, tl, t, p, hp, mo, A, M) x).2 u' → post (ls_cCrash (fl, bl, tl, t, p, hp, mo, A, M) x).1 u') : wpX_crash post u x := by
  refine ls_RXe (Q := fun u => wpX_crash post u x) hX ?_
  clear hX
  intro sF sC sH sV np D R pl K rt ln fs hd hu vi vs dk pa lv ss sl h hD hT hC hX
  have w1 := w.1
  unfold wpX_crash
  unfold ls_cCrash at k
  dsimp only at k
  refine pk_eq mo 0 (fun m0 => ?_) (fun m0 => ?_) rfl rfl (by omega) (by decide)
  · rw [if_pos m0] at k; exact k _ hX
  · rw [if_neg m0] at k
    by_cases x0 : x < 0
    · rw [if_pos x0] at k
      exact br_f (Int32.not_le.mpr x0) (k _ hX)
    · rw [if_neg x0] at k
      refine br_t (Int32.not_lt.mp x0) ?_
      obtain ⟨a, ha, rfl⟩ := nI_of x0
      rw [nI_clamp ha] at k
      have hmn := ls_mn_le a p
      refine ls_xDur h ha (by omega) (fun h' => ?_)
      refine ls_xSw (t := t + ls_mn a p) (p := 0) (mo := 0) (hp := hp) (A := A) (M := M) (ls_HXf (pc' := nI 0) (mo' := nI 0) (lv' := lv) h') (by omega) (by omega) hD (ls_TRle hT (by omega)) (fun u' hu' => ?_)
      have kk := k u' hu'
      obtain ⟨sF, sC, sH, sV, fl, bl, tl, ln, fs, hd, hu, vi, vs, tc, pc, np, mo, dk, pa, lv, ss, sl, op⟩ := u'
      exact kk
theorem ls_xCIC (w : ls_CW (fl, bl, tl, t, p, hp, mo, A, M)) (hX : ls_RX (fl, bl, tl, t, p, hp, mo, A, M) u)
    (k : ∀ u', ls_RX (ls_cCIC (fl, bl, tl, t, p, hp, mo, A, M)).2 u' → post (ls_cCIC (fl, bl, tl, t, p, hp, mo, A, M)).1 u') : wpX_crashInCheckpoint post u := by
  refine ls_RXe (Q := fun u => wpX_crashInCheckpoint post u) hX ?_
  clear hX
  intro sF sC sH sV np D R pl K rt ln fs hd hu vi vs dk pa lv ss sl h hD hT hC hX
  have w1 := w.1
  unfold wpX_crashInCheckpoint
  unfold ls_cCIC at k
  dsimp only at k
  refine pk_eq mo 0 (fun m0 => ?_) (fun m0 => ?_) rfl rfl (by omega) (by decide)
  · rw [if_pos m0] at k; exact k _ hX
  · rw [if_neg m0] at k
    refine nm_r (nI_add t p) ?_
    have h1 := ls_HXf (tc' := nI (t + p)) (pc' := nI 0) (np' := nI np) (mo' := nI mo) (op' := ls_f (fun j => rt (j + 2))) (lv' := lv) h
    obtain ⟨d1, d2, d3, d4, d5, d6, d7⟩ := hD
    dsimp only
    rw [show (1 : Int32) - nI np = nI (1 - np) from pk_sub (a := 1) d1]
    refine ls_xTear h1 (by omega) (fun ln fs hd hu vi vs dk pa lv ss sl h => ?_)
    have h' := ls_HXf (tc' := nI (t + p)) (pc' := nI 0) (np' := nI np) (mo' := nI 0) (op' := ls_f (fun j => rt (j + 2))) (lv' := lv) h
    rw [ls_r2op rt 0 (rt 1)] at h'
    have fin : ∀ u', ls_RX (fl, bl, tl, t + p, 0, 0, 0, ls_cp2 A ls_E0 (A 1), M) u' → u'.2.2.2.2.2.2.2.2.2.2.2.2.2.1 = nI (t + p) := by
      intro u' hu'
      refine ls_RXe (Q := fun u' => u'.2.2.2.2.2.2.2.2.2.2.2.2.2.1 = nI (t + p)) hu' ?_
      intros
      rfl
    refine ls_xSw (t := t + p) (p := 0) (hp := 0) (mo := 0) (A := ls_cp2 A ls_E0 (A 1)) (M := M) h' (by omega) (by omega) ?_ (ls_TR2 hT (by omega) (ls_VE0 hT) (hT.2.1 1 (by omega)) (Or.inr rfl)) (fun u' hu' => ?_)
    · rcases (by omega : np = 0 ∨ np = 1) with rfl | rfl
      · refine ⟨by omega, fun w hw => ?_, ?_, ?_, ?_, ?_, fun z => rfl⟩
        · rw [pk_un (by omega), pk_un (by omega)]; exact d2 w hw
        · rw [pk_un (by omega), pk_un (by omega)]; exact d3
        · rw [pk_un (by omega), pk_un (by omega)]; exact d4
        · rw [pk_un (by omega)]; exact pk_us
        · exact pk_us
      · refine ⟨by omega, fun w hw => ?_, ?_, ?_, ?_, ?_, fun z => rfl⟩
        · rw [pk_un (by omega), pk_un (by omega)]; exact d2 w hw
        · rw [pk_un (by omega), pk_un (by omega)]; exact d3
        · rw [pk_un (by omega), pk_un (by omega)]; exact d4
        · rw [pk_un (by omega)]; exact pk_us
        · exact pk_us
    · have kk := k u' hu'
      have ff := fin u' hu'
      obtain ⟨sF, sC, sH, sV, fl, bl, tl, ln, fs, hd, hu, vi, vs, tc', pc, np, mo, dk, pa, lv, ss, sl, op⟩ := u'
      have ff' : tc' = nI (t + p) := ff
      subst ff'
      exact kk
theorem ls_x105 {sF sC sH sV : Int32} {np r : Nat} {D : Nat → Int32} {R : Nat → Nat → Int32} {pl : Nat → Prop} {K rt : Nat → Nat} {ln fs hd hu vi vs : Int32} {dk pa lv ss sl : Nat → Int32} (h : ls_HX sF sC sH sV (nI fl) (nI bl) (nI tl) (nI t) (nI p) (nI np) (nI mo) (ls_f (fun j => rt (j + 2))) D R pl 0 (sF, sC, sH, sV, (nI fl), (nI bl), (nI tl), ln, fs, hd, hu, vi, vs, (nI t), (nI p), (nI np), (nI mo), dk, pa, lv, ss, sl, (ls_f (fun j => rt (j + 2))))) (hp2 : hp < 2) (hD : ls_DD D np hp rt) (hT : ls_TR R pl K rt 0 A M)
    (k : ∀ u', ls_RX (fl, bl, tl, 0, 0, hp, 1, A, M) u' → post (nI r) u') : wX_mount_105 post (nI r) sF sC sH sV (nI fl) (nI bl) (nI tl) ln fs hd hu vi vs (nI t) (nI p) (nI np) (nI mo) dk pa lv ss sl (ls_f (fun j => rt (j + 2))) := by
  unfold wX_mount_105
  refine ls_xSw (t := 0) (p := 0) (mo := 1) (hp := hp) (A := A) (M := M) (ls_HXf (tc' := nI 0) (pc' := nI 0) (mo' := nI 1) (lv' := lv) h) (by omega) hp2 hD hT (fun u' hu' => ?_)
  have kk := k u' hu'
  obtain ⟨sF, sC, sH, sV, fl, bl, tl, ln, fs, hd, hu, vi, vs, tc, pc, np, mo, dk, pa, lv, ss, sl, op⟩ := u'
  exact kk
theorem ls_x66 {sF sC sH sV : Int32} {np a : Nat} {D : Nat → Int32} {R : Nat → Nat → Int32} {pl : Nat → Prop} {K rt : Nat → Nat} {ln fs hd hu vi vs : Int32} {dk pa lv ss sl : Nat → Int32} (h : ls_HX sF sC sH sV (nI fl) (nI bl) (nI tl) (nI t) (nI p) (nI np) (nI mo) (ls_f (fun j => rt (j + 2))) D R pl 0 (sF, sC, sH, sV, (nI fl), (nI bl), (nI tl), ln, fs, hd, hu, vi, vs, (nI t), (nI p), (nI np), (nI mo), dk, pa, lv, ss, sl, (ls_f (fun j => rt (j + 2))))) (hp2 : hp < 2) (ht : t + p ≤ 24) (ha : a ≤ t) (hD : ls_DD D np hp rt) (hT : ls_TR R pl K rt (t + p) A M)
    (k0 : a = 0 → ∀ u', ls_RX (fl, bl, tl, 0, 0, hp, 1, A, M) u' → post (nI a) u') (k1 : a ≠ 0 → ∀ u', ls_RX (fl, bl, tl, 0, 0, 1, 1, ls_cp2 A (A 1) (A (a + 1)), M) u' → post (nI a) u') : wX_mount_66 post (nI a) sF sC sH sV (nI fl) (nI bl) (nI tl) ln fs hd hu vi vs (nI t) (nI p) (nI np) (nI mo) dk pa lv ss sl (ls_f (fun j => rt (j + 2))) := by
  unfold wX_mount_66
  refine pk_le a 0 (fun z => ?_) (fun z => ?_) rfl rfl (by omega) (by decide)
  · exact ls_x105 h hp2 hD (ls_TRle hT (by omega)) (k0 (by omega))
  · refine ls_xView h hD.1 hD.2.2.1 (by omega) ?_
    refine ls_xWC h hD.1 (fun ln fs hd hu vi vs dk pa lv ss sl h => ?_)
    obtain ⟨d1, d2, d3, d4, d5, d6, d7⟩ := hD
    have h' := h
    rw [ls_r2op rt (rt 1) (rt (a + 1))] at h'
    have x := ls_x105 (post := post) (r := a) (hp := 1) (A := ls_cp2 A (A 1) (A (a + 1))) (M := M) (rt := ls_r2 rt (rt 1) (rt (a + 1))) (K := K) h' (by omega) ?_ (ls_TR2 hT (by omega) (hT.2.1 1 (by omega)) (hT.2.1 (a + 1) (by omega)) (Or.inl rfl)) (k1 (by omega))
    · rw [← ls_r2op rt (rt 1) (rt (a + 1))] at x
      exact x
    · rcases (by omega : np = 0 ∨ np = 1) with rfl | rfl
      · refine ⟨by omega, fun w hw => ?_, ?_, ?_, ?_, ?_, fun z => by omega⟩
        · rw [pk_un (by omega), pk_un (by omega)]; exact d2 w hw
        · rw [pk_un (by omega)]; exact pk_us
        · exact pk_us
        · rw [pk_un (by omega), pk_un (by omega)]; exact d3
        · rw [pk_un (by omega), pk_un (by omega)]; exact d4
      · refine ⟨by omega, fun w hw => ?_, ?_, ?_, ?_, ?_, fun z => by omega⟩
        · rw [pk_un (by omega), pk_un (by omega)]; exact d2 w hw
        · rw [pk_un (by omega)]; exact pk_us
        · exact pk_us
        · rw [pk_un (by omega), pk_un (by omega)]; exact d3
        · rw [pk_un (by omega), pk_un (by omega)]; exact d4
theorem ls_xMount {x y : Int32} (w : ls_CW (fl, bl, tl, t, p, hp, mo, A, M)) (hX : ls_RX (fl, bl, tl, t, p, hp, mo, A, M) u)
    (k : ∀ u', ls_RX (ls_cMount (fl, bl, tl, t, p, hp, mo, A, M) x y).2 u' → post (ls_cMount (fl, bl, tl, t, p, hp, mo, A, M) x y).1 u') : wpX_mount post u x y := by
  refine ls_RXe (Q := fun u => wpX_mount post u x y) hX ?_
  clear hX
  intro sF sC sH sV np D R pl K rt ln fs hd hu vi vs dk pa lv ss sl h hD hT hC hX
  have w1 := w.1
  unfold wpX_mount
  unfold ls_cMount at k
  dsimp only at k
  refine pk_eq mo 0 (fun m0 => ?_) (fun m0 => ?_) rfl rfl (by omega) (by decide)
  · rw [if_pos m0] at k
    have p0 : p = 0 := w1.2.2.2.2.2.2.2 m0
    refine br_c (fun x0 => ?_) (fun x0 => ?_)
    · rw [if_pos x0] at k
      subst x0
      unfold wX_mount_22
      refine br_f (by decide) ?_
      unfold wX_mount_37
      by_cases y0 : y < 0
      · rw [if_pos y0] at k
        exact br_f (Int32.not_le.mpr y0) (k _ hX)
      · rw [if_neg y0] at k
        obtain ⟨a, ha, rfl⟩ := nI_of y0
        rw [nI_clamp ha] at k
        have hm := ls_mn_le a t
        have main : wX_mount_66 post (nI (ls_mn a t)) sF sC sH sV (nI fl) (nI bl) (nI tl) ln fs hd hu vi vs (nI t) (nI p) (nI np) (nI mo) dk pa lv ss sl (ls_f (fun j => rt (j + 2))) := by
          refine ls_x66 h (by omega) (by omega) hm hD hT (fun z u' hu' => ?_) (fun z u' hu' => ?_)
          · rw [if_pos z] at k
            subst p0
            rw [z]
            exact k _ hu'
          · rw [if_neg z] at k
            subst p0
            exact k _ hu'
        refine br_t (Int32.not_lt.mp y0) (br_t rfl (pk_le t a (fun z => ?_) (fun z => ?_) rfl rfl (by omega) ha))
        · rw [show ls_mn a t = t from if_pos z] at main; exact main
        · rw [show ls_mn a t = a from if_neg (by omega)] at main; exact main
    · rw [if_neg x0] at k
      refine br_c (fun x1 => ?_) (fun x1 => ?_)
      · rw [if_pos x1] at k
        unfold wX_mount_22
        refine br_t x1 ?_
        refine ls_xPrev h hD.1 hD.2.2.2.2.2.1 (by omega) ?_
        refine pk_eq hp 0 (fun z => ?_) (fun z => ?_) rfl rfl (by omega) (by decide)
        · rw [if_pos z] at k; exact k _ hX
        · rw [if_neg z] at k
          unfold wX_mount_37
          by_cases y0 : y < 0
          · rw [if_pos y0] at k
            exact br_f (Int32.not_le.mpr y0) (k _ hX)
          · rw [if_neg y0] at k
            refine br_t (Int32.not_lt.mp y0) (br_f x0 ?_)
            obtain ⟨d1, d2, d3, d4, d5, d6, d7⟩ := hD
            refine ls_xTear h d1 (fun ln fs hd hu vi vs dk pa lv ss sl h => ?_)
            refine nm_r (e' := nI (1 - np)) (pk_sub (a := 1) d1) ?_
            have h' := ls_HXf (tc' := nI t) (pc' := nI p) (np' := nI (1 - np)) (mo' := nI mo) (op' := ls_f (fun j => rt (j + 2))) (lv' := lv) h
            rw [ls_r2op rt 0 (rt 0)] at h'
            subst p0
            have x := ls_x105 (post := post) (r := 0) (hp := 0) (A := ls_cp2 A ls_E0 (A 0)) (M := M) (rt := ls_r2 rt 0 (rt 0)) (K := K) h' (by omega) ?_ (ls_TR2 hT (by omega) (ls_VE0 hT) (hT.2.1 0 (by omega)) (Or.inl rfl)) (fun u' hu' => k u' hu')
            · rw [← ls_r2op rt 0 (rt 0)] at x
              exact x
            · obtain rfl : hp = 1 := by omega
              rcases (by omega : np = 0 ∨ np = 1) with rfl | rfl
              · refine ⟨by omega, fun w hw => ?_, ?_, ?_, ?_, ?_, fun z => rfl⟩
                · rw [pk_un (by omega), pk_un (by omega)]; exact d2 w hw
                · rw [pk_un (by omega), pk_un (by omega)]; exact d5
                · rw [pk_un (by omega), pk_un (by omega)]; exact d6
                · rw [pk_un (by omega)]; exact pk_us
                · exact pk_us
              · refine ⟨by omega, fun w hw => ?_, ?_, ?_, ?_, ?_, fun z => rfl⟩
                · rw [pk_un (by omega), pk_un (by omega)]; exact d2 w hw
                · rw [pk_un (by omega), pk_un (by omega)]; exact d5
                · rw [pk_un (by omega), pk_un (by omega)]; exact d6
                · rw [pk_un (by omega)]; exact pk_us
                · exact pk_us
      · rw [if_neg x1] at k; exact k _ hX
  · rw [if_neg m0] at k; exact k _ hX
end
end
section
/-! ===== the component's getters ===== -/
def ls_gv (o : Option Nat) (d : Int32) (F : Nat → Int32) : Int32 := match o with
  | none => d
  | some s => F s
theorem ls_vwN {fl bl tl t p hp mo : Nat} {A : Nat → Nat → ls_FR} {M : Nat → Nat × Nat} {v : Int32} {s : Nat} (ht : t + p ≤ 24) (h : ls_vw (fl, bl, tl, t, p, hp, mo, A, M) v = some s) : (v = -1 ∧ s = 0 ∧ hp ≠ 0) ∨ (∃ a, v = nI a ∧ a ≤ t + p ∧ s = a + 1) := by
  unfold ls_vw at h
  dsimp only at h
  by_cases e : v = -1
  · rw [if_pos e] at h
    by_cases z : hp = 0
    · rw [if_pos z] at h; cases h
    · rw [if_neg z] at h; cases h; exact Or.inl ⟨e, rfl, z⟩
  · rw [if_neg e] at h
    by_cases z : v < 0
    · rw [if_pos z] at h; cases h
    · rw [if_neg z] at h
      obtain ⟨a, ha, rfl⟩ := nI_of z
      by_cases y : nI a ≤ nI (t + p)
      · rw [if_pos y, nI_clamp ha] at h
        cases h
        exact Or.inr ⟨a, rfl, (nI_leI ha (by omega)).mp y, rfl⟩
      · rw [if_neg y] at h; cases h
section
variable {fl bl tl t p hp mo : Nat} {A : Nat → Nat → ls_FR} {M : Nat → Nat × Nat} {u : SX} {post : Int32 → Prop}
theorem ls_vw_le {v : Int32} {s : Nat} (ht : t + p ≤ 24) (h : ls_vw (fl, bl, tl, t, p, hp, mo, A, M) v = some s) : s ≤ t + p + 1 ∧ (s = 0 → hp ≠ 0) := by
  rcases ls_vwN ht h with ⟨_, b, c⟩ | ⟨a, _, b, c⟩
  · exact ⟨by omega, fun _ => c⟩
  · exact ⟨by omega, fun z => by omega⟩
end
section
variable {sF sC sH sV : Int32} {fl bl tl t p hp mo np q : Nat} {A : Nat → Nat → ls_FR} {M : Nat → Nat × Nat} {u : SX} {D : Nat → Int32} {R : Nat → Nat → Int32} {pl : Nat → Prop} {K rt : Nat → Nat} {post : Int32 → Prop}
theorem ls_xBadV {v : Int32} (h : ls_HX sF sC sH sV (nI fl) (nI bl) (nI tl) (nI t) (nI p) (nI np) (nI mo) (ls_f (fun j => rt (j + 2))) D R pl q u) (hD : ls_DD D np hp rt) (hp2 : hp < 2) (ht : t + p ≤ 24) (k : post (ls_gv (ls_vw (fl, bl, tl, t, p, hp, mo, A, M) v) 1 (fun _ => 0))) : wpX_badView post u v := by
  refine ls_HXs (Q := fun u => wpX_badView post u v) h ?_
  intro ln fs hd hu vi vs dk pa lv ss sl h
  unfold wpX_badView
  unfold ls_vw at k
  dsimp only at k
  refine br_c (fun e => ?_) (fun e => ?_)
  · rw [if_pos e] at k
    refine ls_xPrev h hD.1 hD.2.2.2.2.2.1 hp2 ?_
    refine pk_eq hp 0 (fun z => ?_) (fun z => ?_) rfl rfl (by omega) (by decide)
    · rw [if_pos z] at k; exact k
    · rw [if_neg z] at k; exact k
  · rw [if_neg e] at k
    refine br_c (fun z => ?_) (fun z => ?_)
    · rw [if_pos z] at k; exact k
    · rw [if_neg z] at k
      rw [nI_add]
      refine br_c (fun y => ?_) (fun y => ?_)
      · rw [if_pos y] at k; exact k
      · rw [if_neg y] at k; exact k
theorem ls_xViewS {v : Int32} {s : Nat} (h : ls_HX sF sC sH sV (nI fl) (nI bl) (nI tl) (nI t) (nI p) (nI np) (nI mo) (ls_f (fun j => rt (j + 2))) D R pl q u) (hD : ls_DD D np hp rt) (ht : t + p ≤ 24) (hs : ls_vw (fl, bl, tl, t, p, hp, mo, A, M) v = some s) (k : post (nI (rt s))) : wpX_viewRoot post u v := by
  rcases ls_vwN ht hs with ⟨rfl, rfl, c⟩ | ⟨a, rfl, b, rfl⟩
  · exact ls_xViewP h hD.1 hD.2.2.2.2.1 k
  · exact ls_xView h hD.1 hD.2.2.1 (by omega) k
end
section
variable {fl bl tl t p hp mo : Nat} {A : Nat → Nat → ls_FR} {M : Nat → Nat × Nat} {u : SX} {post : Int32 → Prop}
theorem ls_bn {mo : Nat} (h : mo < 2) : narrow .boolean (.int (nI mo)) = .int (nI mo) := by
  rcases (by omega : mo = 0 ∨ mo = 1) with rfl | rfl
  · rfl
  · rfl
theorem ls_xIsM (w : ls_CW (fl, bl, tl, t, p, hp, mo, A, M)) (hX : ls_RX (fl, bl, tl, t, p, hp, mo, A, M) u) (k : post (nI mo)) : wpX_isMounted post u := by
  refine ls_RXe (Q := fun u => wpX_isMounted post u) hX ?_
  intro sF sC sH sV np D R pl K rt ln fs hd hu vi vs dk pa lv ss sl h hD hT hC hX
  exact ⟨ls_bn w.1.2.2.2.2.2.2.1, k⟩
theorem ls_xTL (hX : ls_RX (fl, bl, tl, t, p, hp, mo, A, M) u) (k : post (nI t)) : wpX_tailLength post u := by
  refine ls_RXe (Q := fun u => wpX_tailLength post u) hX ?_
  intro sF sC sH sV np D R pl K rt ln fs hd hu vi vs dk pa lv ss sl h hD hT hC hX
  exact k
theorem ls_xPL (hX : ls_RX (fl, bl, tl, t, p, hp, mo, A, M) u) (k : post (nI p)) : wpX_pendingLength post u := by
  refine ls_RXe (Q := fun u => wpX_pendingLength post u) hX ?_
  intro sF sC sH sV np D R pl K rt ln fs hd hu vi vs dk pa lv ss sl h hD hT hC hX
  exact k
theorem ls_xHP (w : ls_CW (fl, bl, tl, t, p, hp, mo, A, M)) (hX : ls_RX (fl, bl, tl, t, p, hp, mo, A, M) u) (k : post (nI hp)) : wpX_hasPrevious post u := by
  obtain ⟨sF, sC, sH, sV, np, D, R, pl, K, rt, h, hD, hT, hC⟩ := hX
  exact ls_xPrev h hD.1 hD.2.2.2.2.2.1 w.1.2.2.2.2.2.1 k
theorem ls_nbad {f fl : Nat} (hf : f < fl) (h8 : fl ≤ 8) : ¬ (nI f < 0 ∨ nI fl ≤ nI f) := by
  rintro (z | z)
  · exact nI_pos (by omega) z
  · exact nI_ge hf (by omega) z
theorem ls_xSizeOf {v x : Int32} (w : ls_CW (fl, bl, tl, t, p, hp, mo, A, M)) (hX : ls_RX (fl, bl, tl, t, p, hp, mo, A, M) u)
    (k : post (ls_gv (ls_vw (fl, bl, tl, t, p, hp, mo, A, M) v) (-13) (fun s => ls_cSize (fl, bl, tl, t, p, hp, mo, A, M) s x))) : wpX_sizeOf post u v x := by
  refine ls_RXe (Q := fun u => wpX_sizeOf post u v x) hX ?_
  intro sF sC sH sV np D R pl K rt ln fs hd hu vi vs dk pa lv ss sl h hD hT hC hX
  have w1 := w.1
  unfold wpX_sizeOf
  refine ls_xBadV (A := A) (M := M) h hD (by omega) (by omega) ?_
  cases hs : ls_vw (fl, bl, tl, t, p, hp, mo, A, M) v with
  | none => rw [hs] at k; exact br_f (show ¬ (1 : Int32) = 0 by decide) k
  | some s =>
    rw [hs] at k
    have hs1 := ls_vw_le (by omega) hs
    refine br_t rfl ?_
    have k : post (if x < 0 ∨ nI fl ≤ x then -2 else if (A s x.toNatClampNeg).1 = 0 then -3 else nI (A s x.toNatClampNeg).2.2.1) := k
    refine ls_xBad h w1.2.1 (fun b => ?_) (fun f e hf => ?_)
    · rw [if_pos b] at k; exact br_f (show ¬ (1 : Int32) = 0 by decide) k
    · subst e
      rw [if_neg (ls_nbad hf w1.2.1), nI_clamp (by omega)] at k
      have hw := ls_nif w hT hs1.1 (f := f) (by omega)
      have hil : ls_ino R (rt s) f < 256 := ls_gb_lt _ _
      refine br_t rfl ?_
      refine ls_xViewS h hD (by omega) hs ?_
      refine ls_xIno h (ls_rt2 h (hT.2.1 s hs1.1).1) (f := f) (by omega) ?_
      refine ls_xPres h hil hw.1 hw.2.1 hw.2.2.1 hw.2.2.2 ?_
      refine pk_eq (A s f).1 0 (fun z => ?_) (fun z => ?_) rfl rfl (by omega) (by decide)
      · rw [if_pos z] at k; exact k
      · rw [if_neg z] at k
        exact ls_xSize h hil hw.1 hw.2.1 hw.2.2.1 hw.2.2.2 k
theorem ls_xGenOf {v x : Int32} (w : ls_CW (fl, bl, tl, t, p, hp, mo, A, M)) (hX : ls_RX (fl, bl, tl, t, p, hp, mo, A, M) u)
    (k : post (ls_gv (ls_vw (fl, bl, tl, t, p, hp, mo, A, M) v) (-13) (fun s => ls_cGen (fl, bl, tl, t, p, hp, mo, A, M) s x))) : wpX_generationOf post u v x := by
  refine ls_RXe (Q := fun u => wpX_generationOf post u v x) hX ?_
  intro sF sC sH sV np D R pl K rt ln fs hd hu vi vs dk pa lv ss sl h hD hT hC hX
  have w1 := w.1
  unfold wpX_generationOf
  refine ls_xBadV (A := A) (M := M) h hD (by omega) (by omega) ?_
  cases hs : ls_vw (fl, bl, tl, t, p, hp, mo, A, M) v with
  | none => rw [hs] at k; exact br_f (show ¬ (1 : Int32) = 0 by decide) k
  | some s =>
    rw [hs] at k
    have hs1 := ls_vw_le (by omega) hs
    refine br_t rfl ?_
    have k : post (if x < 0 ∨ nI fl ≤ x then -2 else nI (A s x.toNatClampNeg).2.1) := k
    refine ls_xBad h w1.2.1 (fun b => ?_) (fun f e hf => ?_)
    · rw [if_pos b] at k; exact br_f (show ¬ (1 : Int32) = 0 by decide) k
    · subst e
      rw [if_neg (ls_nbad hf w1.2.1), nI_clamp (by omega)] at k
      have hw := ls_nif w hT hs1.1 (f := f) (by omega)
      have hil : ls_ino R (rt s) f < 256 := ls_gb_lt _ _
      refine br_t rfl ?_
      refine ls_xViewS h hD (by omega) hs ?_
      refine ls_xIno h (ls_rt2 h (hT.2.1 s hs1.1).1) (f := f) (by omega) ?_
      exact ls_xGen h hil hw.1 hw.2.1 hw.2.2.1 hw.2.2.2 k
theorem ls_xWordAt {v x y : Int32} (w : ls_CW (fl, bl, tl, t, p, hp, mo, A, M)) (hX : ls_RX (fl, bl, tl, t, p, hp, mo, A, M) u)
    (k : post (ls_gv (ls_vw (fl, bl, tl, t, p, hp, mo, A, M) v) 0 (fun s => ls_cWord (fl, bl, tl, t, p, hp, mo, A, M) s x y))) : wpX_wordAt post u v x y := by
  refine ls_RXe (Q := fun u => wpX_wordAt post u v x y) hX ?_
  intro sF sC sH sV np D R pl K rt ln fs hd hu vi vs dk pa lv ss sl h hD hT hC hX
  have w1 := w.1
  unfold wpX_wordAt
  refine ls_xBadV (A := A) (M := M) h hD (by omega) (by omega) ?_
  cases hs : ls_vw (fl, bl, tl, t, p, hp, mo, A, M) v with
  | none => rw [hs] at k; exact br_f (show ¬ (1 : Int32) = 0 by decide) k
  | some s =>
    rw [hs] at k
    have hs1 := ls_vw_le (by omega) hs
    refine br_t rfl ?_
    have k : post (if x < 0 ∨ nI fl ≤ x then 0 else if (A s x.toNatClampNeg).1 = 0 then 0 else if y < 0 then 0 else if y < nI (A s x.toNatClampNeg).2.2.1 then (A s x.toNatClampNeg).2.2.2 y.toNatClampNeg else 0) := k
    refine ls_xBad h w1.2.1 (fun b => ?_) (fun f e hf => ?_)
    · rw [if_pos b] at k; exact br_f (show ¬ (1 : Int32) = 0 by decide) k
    · subst e
      rw [if_neg (ls_nbad hf w1.2.1), nI_clamp (by omega)] at k
      have hw := ls_nif w hT hs1.1 (f := f) (by omega)
      have hN := (hT.2.1 s hs1.1).2 f (by omega)
      have hwf := (w.2.1 s hs1.1 f (by omega)).1
      have hil : ls_ino R (rt s) f < 256 := ls_gb_lt _ _
      refine br_t rfl ?_
      refine ls_xViewS h hD (by omega) hs ?_
      refine ls_xIno h (ls_rt2 h (hT.2.1 s hs1.1).1) (f := f) (by omega) ?_
      refine ls_xPres h hil hw.1 hw.2.1 hw.2.2.1 hw.2.2.2 ?_
      refine pk_eq (A s f).1 0 (fun z => ?_) (fun z => ?_) rfl rfl (by omega) (by decide)
      · rw [if_pos z] at k; exact k
      · rw [if_neg z] at k
        refine br_c (fun y0 => ?_) (fun y0 => ?_)
        · rw [if_pos y0] at k; exact k
        · rw [if_neg y0] at k
          refine ls_xSize h hil hw.1 hw.2.1 hw.2.2.1 hw.2.2.2 ?_
          refine br_c (fun y1 => ?_) (fun y1 => ?_)
          · rw [if_pos y1] at k
            obtain ⟨a, ha, rfl⟩ := nI_of y0
            rw [nI_clamp ha] at k
            have h3 := hwf.2.2.1
            have y2 := (nI_ltI ha (by omega)).mp y1
            refine ls_xWord h hil (x := a) (by omega) ?_
            have e : R (ls_dat R (ls_ino R (rt s) f) (a / 4)) (a % 4) = (A s f).2.2.2 a := hN.2.2.2 a (by omega)
            rw [e]
            exact k
          · rw [if_neg y1] at k; exact k
theorem ls_xUsedB {v : Int32} (w : ls_CW (fl, bl, tl, t, p, hp, mo, A, M)) (hX : ls_RX (fl, bl, tl, t, p, hp, mo, A, M) u)
    (k : post (ls_gv (ls_vw (fl, bl, tl, t, p, hp, mo, A, M) v) (-13) (fun s => nI (ls_used (A s))))) : wpX_usedBlocks post u v := by
  refine ls_RXe (Q := fun u => wpX_usedBlocks post u v) hX ?_
  intro sF sC sH sV np D R pl K rt ln fs hd hu vi vs dk pa lv ss sl h hD hT hC hX
  have w1 := w.1
  unfold wpX_usedBlocks
  refine ls_xBadV (A := A) (M := M) h hD (by omega) (by omega) ?_
  cases hs : ls_vw (fl, bl, tl, t, p, hp, mo, A, M) v with
  | none => rw [hs] at k; exact br_f (show ¬ (1 : Int32) = 0 by decide) k
  | some s =>
    rw [hs] at k
    have hs1 := ls_vw_le (by omega) hs
    refine br_t rfl ?_
    refine ls_xViewS h hD (by omega) hs ?_
    exact ls_xUsed (sz := fun f => (A s f).2.2.1) h (ls_rt2 h (hT.2.1 s hs1.1).1) (ls_szs w hT hs1.1) k
theorem ls_xDg89 {sF sC sH sV : Int32} {np i f s : Nat} {D : Nat → Int32} {R : Nat → Nat → Int32} {pl : Nat → Prop} {rt : Nat → Nat} {ln fs hd hu vi vs : Int32} {dk pa lv ss sl : Nat → Int32} {J : Int32 → Int32 → Prop} {x2 h0 : Int32} {wd : Nat → Int32} (h : ls_HX sF sC sH sV (nI fl) (nI bl) (nI tl) (nI t) (nI p) (nI np) (nI mo) (ls_f (fun j => rt (j + 2))) D R pl 0 (sF, sC, sH, sV, (nI fl), (nI bl), (nI tl), ln, fs, hd, hu, vi, vs, (nI t), (nI p), (nI np), (nI mo), dk, pa, lv, ss, sl, (ls_f (fun j => rt (j + 2))))) (hi : i < 256) (hs : s ≤ 16) (hw : ∀ x, x < 16 → R (ls_dat R i (x / 4)) (x % 4) = wd x) (k : J (ls_dgW wd s h0) (nI (f + 1))) :
    ∀ d y n, y + d = s → d < n → wX_digest_89 post J x2 (nI f) (nI i) (nI s) sF sC sH sV (nI fl) (nI bl) (nI tl) ln fs hd hu vi vs (nI t) (nI p) (nI np) (nI mo) dk pa lv ss sl (ls_f (fun j => rt (j + 2))) n (ls_dgW wd y h0) (nI y) := by
  intro d
  induction d with
  | zero =>
    intro y n hy hn
    obtain ⟨n, rfl⟩ : ∃ n', n = n' + 1 := ⟨n - 1, by omega⟩
    obtain rfl : y = s := by omega
    exact pk_le 16 y (fun _ => nm_r (nI_1 f) k) (fun _ => br_t (nI_le (Nat.le_refl y) (by omega)) (nm_r (nI_1 f) k)) rfl rfl (by decide) (by omega)
  | succ d ih =>
    intro y n hy hn
    obtain ⟨n, rfl⟩ : ∃ n', n = n' + 1 := ⟨n - 1, by omega⟩
    refine br_f (nI_ge (b := 16) (by omega) (by decide)) (br_f (nI_ge (by omega) (by omega)) ?_)
    refine ls_xWord h hi (x := y) (by omega) ?_
    rw [hw y (by omega)]
    exact nm_e (nm_r (nI_1 y) (ih (y + 1) n (by omega) (by omega)))
theorem ls_xDg22 {sF sC sH sV : Int32} {np s : Nat} {D : Nat → Int32} {R : Nat → Nat → Int32} {pl : Nat → Prop} {K rt : Nat → Nat} {ln fs hd hu vi vs : Int32} {dk pa lv ss sl : Nat → Int32} (h : ls_HX sF sC sH sV (nI fl) (nI bl) (nI tl) (nI t) (nI p) (nI np) (nI mo) (ls_f (fun j => rt (j + 2))) D R pl 0 (sF, sC, sH, sV, (nI fl), (nI bl), (nI tl), ln, fs, hd, hu, vi, vs, (nI t), (nI p), (nI np), (nI mo), dk, pa, lv, ss, sl, (ls_f (fun j => rt (j + 2))))) (w : ls_CW (fl, bl, tl, t, p, hp, mo, A, M)) (hT : ls_TR R pl K rt (t + p) A M) (hs : s ≤ t + p + 1) (k : post (ls_dg (A s) fl)) :
    ∀ d f n, f + d = fl → d < n → wX_digest_22 post (nI (rt s)) sF sC sH sV (nI fl) (nI bl) (nI tl) ln fs hd hu vi vs (nI t) (nI p) (nI np) (nI mo) dk pa lv ss sl (ls_f (fun j => rt (j + 2))) n (ls_dg (A s) f) (nI f) := by
  have w1 := w.1
  intro d
  induction d with
  | zero =>
    intro f n hf hn
    obtain ⟨n, rfl⟩ : ∃ n', n = n' + 1 := ⟨n - 1, by omega⟩
    obtain rfl : f = fl := by omega
    exact pk_le 8 f (fun _ => k) (fun _ => br_t (nI_le (Nat.le_refl f) (by omega)) k) rfl rfl (by decide) (by omega)
  | succ d ih =>
    intro f n hf hn
    obtain ⟨n, rfl⟩ : ∃ n', n = n' + 1 := ⟨n - 1, by omega⟩
    have ihh := ih (f + 1) n (by omega) (by omega)
    have e1 : ls_dg (A s) (f + 1) = ls_dg1 (A s f) (ls_dg (A s) f) := rfl
    rw [e1] at ihh
    unfold ls_dg1 at ihh
    have hw := ls_nif w hT hs (f := f) (by omega)
    have hN := (hT.2.1 s hs).2 f (by omega)
    have hwf := (w.2.1 s hs f (by omega)).1
    have hil : ls_ino R (rt s) f < 256 := ls_gb_lt _ _
    refine br_f (nI_ge (b := 8) (by omega) (by decide)) (br_f (nI_ge (by omega) (by omega)) ?_)
    refine ls_xIno h (ls_rt2 h (hT.2.1 s hs).1) (f := f) (by omega) ?_
    refine ls_xGen h hil hw.1 hw.2.1 hw.2.2.1 hw.2.2.2 ?_
    refine nm_e ?_
    refine ls_xPres h hil hw.1 hw.2.1 hw.2.2.1 hw.2.2.2 ?_
    refine pk_eq (A s f).1 0 (fun z => ?_) (fun z => ?_) rfl rfl (by omega) (by decide)
    · rw [if_pos z] at ihh
      exact nm_e (nm_r (nI_1 f) ihh)
    · rw [if_neg z] at ihh
      refine ls_xSize h hil hw.1 hw.2.1 hw.2.2.1 hw.2.2.2 ?_
      refine nm_e ⟨(A s f).2.2.1 + 1, ?_⟩
      exact ls_xDg89 (wd := (A s f).2.2.2) h hil hwf.2.2.1 hN.2.2.2 ihh (A s f).2.2.1 0 _ (by omega) (by omega)
theorem ls_xDigest {v : Int32} (w : ls_CW (fl, bl, tl, t, p, hp, mo, A, M)) (hX : ls_RX (fl, bl, tl, t, p, hp, mo, A, M) u)
    (k : post (ls_gv (ls_vw (fl, bl, tl, t, p, hp, mo, A, M) v) 0 (fun s => ls_dg (A s) fl))) : wpX_digest post u v := by
  refine ls_RXe (Q := fun u => wpX_digest post u v) hX ?_
  intro sF sC sH sV np D R pl K rt ln fs hd hu vi vs dk pa lv ss sl h hD hT hC hX
  have w1 := w.1
  unfold wpX_digest
  refine ls_xBadV (A := A) (M := M) h hD (by omega) (by omega) ?_
  cases hs : ls_vw (fl, bl, tl, t, p, hp, mo, A, M) v with
  | none => rw [hs] at k; exact br_f (show ¬ (1 : Int32) = 0 by decide) k
  | some s =>
    rw [hs] at k
    have hs1 := ls_vw_le (by omega) hs
    refine br_t rfl ?_
    refine ls_xViewS h hD (by omega) hs ?_
    exact ⟨fl + 1, ls_xDg22 h w hT hs1.1 k fl 0 (fl + 1) (by omega) (by omega)⟩
end
end
section
/-! ===== the reference against the abstract state ===== -/
def ls_sz (x : ls_FR) : Int32 := if x.1 = 0 then -1 else nI x.2.2.1
def ls_YS (ge sz wo : Nat → Int32) (k : Nat) (C : Nat → ls_FR) : Prop := ∀ f, f < 8 → ge (8 * k + f) = nI (C f).2.1 ∧ sz (8 * k + f) = ls_sz (C f) ∧ ∀ y, y < (C f).2.2.1 → wo (16 * (8 * k + f) + y) = (C f).2.2.2 y
def ls_YA (ge sz wo : Nat → Int32) (N hp : Nat) (A : Nat → Nat → ls_FR) : Prop := ∀ k, k ≤ N + 1 → (k = 0 → hp ≠ 0) → ls_YS ge sz wo k (A k)
def ls_YM (ca cb : Nat → Int32) (N : Nat) (M : Nat → Nat × Nat) : Prop := ∀ i, i < N → ca i = nI (M i).1 ∧ cb i = nI (M i).2
def ls_RY : ls_C → SY → Prop
  | (fl, bl, tl, t, p, hp, mo, A, M), v => ∃ ge sz wo ca cb, v = ((nI fl), (nI bl), (nI tl), (nI t), (nI p), (nI hp), (nI mo), ge, sz, wo, ca, cb) ∧ ls_YA ge sz wo (t + p) hp A ∧ ls_YM ca cb (t + p) M
theorem ls_sz_lt {x : ls_FR} (h : ls_WF x) : ls_sz x < 0 ↔ x.1 = 0 := by
  have h3 := h.2.2.1
  unfold ls_sz
  by_cases z : x.1 = 0
  · rw [if_pos z]; exact ⟨fun _ => z, fun _ => by decide⟩
  · rw [if_neg z]; exact ⟨fun y => absurd y (nI_pos (by omega)), fun y => absurd y z⟩
theorem ls_sz_ge {x : ls_FR} (h : ls_WF x) : 0 ≤ ls_sz x ↔ x.1 ≠ 0 := by
  rw [← Int32.not_lt, ls_sz_lt h]
theorem ls_sz_p {x : ls_FR} (h : x.1 ≠ 0) : ls_sz x = nI x.2.2.1 := if_neg h
/-! copying a row of an array -/
def ls_cy (g : Nat → Int32) (s d m : Nat) : Nat → Int32 := fun j => if d ≤ j ∧ j < d + m then g (s + (j - d)) else g j
theorem ls_cy0 (g : Nat → Int32) (s d : Nat) : ls_cy g s d 0 = g := by
  funext j
  exact if_neg (by omega)
theorem ls_cyS (g : Nat → Int32) {s d m : Nat} (h : s + m < d ∨ d ≤ s) : upd (ls_cy g s d m) (d + m) (ls_cy g s d m (s + m)) = ls_cy g s d (m + 1) := by
  have e : ls_cy g s d m (s + m) = g (s + m) := if_neg (by omega)
  rw [e]
  funext j
  by_cases c : j = d + m
  · subst c
    rw [pk_us]
    have e2 : ls_cy g s d (m + 1) (d + m) = g (s + (d + m - d)) := if_pos (by omega)
    rw [e2]
    exact congrArg g (by omega)
  · rw [pk_un c]
    unfold ls_cy
    by_cases z : d ≤ j ∧ j < d + m
    · rw [if_pos z, if_pos (by omega)]
    · rw [if_neg z, if_neg (by omega)]
theorem ls_cy_o {g : Nat → Int32} {s d m j : Nat} (h : j < d ∨ d + m ≤ j) : ls_cy g s d m j = g j := if_neg (by omega)
theorem ls_cy_i {g : Nat → Int32} {s d m i : Nat} (h : i < m) : ls_cy g s d m (d + i) = g (s + i) := by
  have e2 : ls_cy g s d m (d + i) = g (s + (d + i - d)) := if_pos (by omega)
  rw [e2]
  exact congrArg g (by omega)
section
variable {fl bl tl tc pc hp mo : Int32} {ge sz wo ca cb : Nat → Int32}
theorem ls_yCopy55 {post : SY → Prop} {J : Int32 → (Nat → Int32) → (Nat → Int32) → (Nat → Int32) → (Nat → Int32) → (Nat → Int32) → Prop} {a b f : Nat} (ha : a ≤ 25) (hb : b ≤ 25) (hf : f < 8) (k : J (nI (f + 1)) ge sz (ls_cy wo (128 * a) (128 * b) (16 * f + 16)) ca cb) :
    ∀ d y n, y + d = 16 → d < n → wY_copySlot_55 post J (nI a) (nI b) (nI f) fl bl tl tc pc hp mo n (nI y) ge sz (ls_cy wo (128 * a) (128 * b) (16 * f + y)) ca cb := by
  intro d
  induction d with
  | zero =>
    intro y n hy hn
    obtain ⟨n, rfl⟩ : ∃ n', n = n' + 1 := ⟨n - 1, by omega⟩
    obtain rfl : y = 16 := by omega
    exact br_t (nI_le (a := 16) (by omega) (by decide)) (nm_r (nI_1 f) k)
  | succ d ih =>
    intro y n hy hn
    obtain ⟨n, rfl⟩ : ∃ n', n = n' + 1 := ⟨n - 1, by omega⟩
    have e : ∀ c, ((nI c * 8) + nI f) * 16 + nI y = nI (128 * c + (16 * f + y)) := by
      intro c
      rw [ls_8, nI_add, show (16 : Int32) = nI 16 from rfl, pk_mul, nI_add]
      exact congrArg nI (by omega)
    refine br_f (nI_ge (b := 16) (by omega) (by decide)) ?_
    rw [e, e, nI_clamp (by omega), nI_clamp (by omega)]
    refine ⟨vp_in_nI (by omega) (by decide), vp_in_nI (by omega) (by decide), nm_r (ls_cyS wo (by omega)) (nm_r (nI_1 y) ?_)⟩
    exact ih (y + 1) n (by omega) (by omega)
theorem ls_yCopy2 {post : SY → Prop} {a b : Nat} (ha : a ≤ 25) (hb : b ≤ 25) (k : post (fl, bl, tl, tc, pc, hp, mo, (ls_cy ge (8 * a) (8 * b) 8), (ls_cy sz (8 * a) (8 * b) 8), (ls_cy wo (128 * a) (128 * b) 128), ca, cb)) :
    ∀ d f n, f + d = 8 → d < n → wY_copySlot_2 post (nI a) (nI b) fl bl tl tc pc hp mo n (nI f) (ls_cy ge (8 * a) (8 * b) f) (ls_cy sz (8 * a) (8 * b) f) (ls_cy wo (128 * a) (128 * b) (16 * f)) ca cb := by
  intro d
  induction d with
  | zero =>
    intro f n hf hn
    obtain ⟨n, rfl⟩ : ∃ n', n = n' + 1 := ⟨n - 1, by omega⟩
    obtain rfl : f = 8 := by omega
    exact br_t (nI_le (a := 8) (by omega) (by decide)) k
  | succ d ih =>
    intro f n hf hn
    obtain ⟨n, rfl⟩ : ∃ n', n = n' + 1 := ⟨n - 1, by omega⟩
    have e : ∀ c, (nI c * 8) + nI f = nI (8 * c + f) := by
      intro c
      rw [ls_8, nI_add]
    refine br_f (nI_ge (b := 8) (by omega) (by decide)) ?_
    rw [e, e, nI_clamp (by omega), nI_clamp (by omega)]
    refine ⟨vp_in_nI (by omega) (by decide), vp_in_nI (by omega) (by decide), nm_r (ls_cyS ge (by omega)) ⟨vp_in_nI (by omega) (by decide), vp_in_nI (by omega) (by decide), nm_r (ls_cyS sz (by omega)) ⟨17, ?_⟩⟩⟩
    refine ls_yCopy55 ha hb (by omega) ?_ 16 0 17 (by omega) (by omega)
    exact ih (f + 1) n (by omega) (by omega)
theorem ls_yCopy {post : SY → Prop} {a b : Nat} (ha : a ≤ 25) (hb : b ≤ 25) (k : post (fl, bl, tl, tc, pc, hp, mo, (ls_cy ge (8 * a) (8 * b) 8), (ls_cy sz (8 * a) (8 * b) 8), (ls_cy wo (128 * a) (128 * b) 128), ca, cb)) : wpY_copySlot post (fl, bl, tl, tc, pc, hp, mo, ge, sz, wo, ca, cb) (nI a) (nI b) := by
  unfold wpY_copySlot
  have m := ls_yCopy2 ha hb k 8 0 9 (by omega) (by omega)
  rw [ls_cy0, ls_cy0, show 16 * 0 = 0 from rfl, ls_cy0] at m
  exact ⟨9, m⟩
end
section
variable {ge sz wo : Nat → Int32} {C : Nat → ls_FR}
theorem ls_YSo {a b k : Nat} (hs : ∀ f, f < 8 → (C f).2.2.1 ≤ 16) (h : ls_YS ge sz wo k C) (hk : k ≠ b) : ls_YS (ls_cy ge (8 * a) (8 * b) 8) (ls_cy sz (8 * a) (8 * b) 8) (ls_cy wo (128 * a) (128 * b) 128) k C := by
  intro f hf
  have hh := h f hf
  have h16 := hs f hf
  rw [ls_cy_o (by omega), ls_cy_o (by omega)]
  exact ⟨hh.1, hh.2.1, fun y hy => by rw [ls_cy_o (by omega)]; exact hh.2.2 y hy⟩
theorem ls_YSi {a b : Nat} (hs : ∀ f, f < 8 → (C f).2.2.1 ≤ 16) (h : ls_YS ge sz wo a C) : ls_YS (ls_cy ge (8 * a) (8 * b) 8) (ls_cy sz (8 * a) (8 * b) 8) (ls_cy wo (128 * a) (128 * b) 128) b C := by
  intro f hf
  have hh := h f hf
  have h16 := hs f hf
  rw [ls_cy_i hf, ls_cy_i hf]
  refine ⟨hh.1, hh.2.1, fun y hy => ?_⟩
  rw [show 16 * (8 * b + f) + y = 128 * b + (16 * f + y) from by omega, ls_cy_i (by omega), show 128 * a + (16 * f + y) = 16 * (8 * a + f) + y from by omega]
  exact hh.2.2 y hy
/-- one place changes -/
theorem ls_yMod {ge' sz' wo' : Nat → Int32} {N hp f : Nat} {A : Nat → Nat → ls_FR} {x : ls_FR} (h : ls_YA ge sz wo (N + 1) hp (ls_add A N C)) (hs : ∀ k, k ≤ N + 2 → ∀ g, g < 8 → (ls_add A N C k g).2.2.1 ≤ 16) (hf : f < 8)
    (o1 : ∀ j, j ≠ 8 * (N + 2) + f → ge' j = ge j) (o2 : ∀ j, j ≠ 8 * (N + 2) + f → sz' j = sz j) (o3 : ∀ j, (j < 16 * (8 * (N + 2) + f) ∨ 16 * (8 * (N + 2) + f) + 16 ≤ j) → wo' j = wo j)
    (n1 : ge' (8 * (N + 2) + f) = nI x.2.1) (n2 : sz' (8 * (N + 2) + f) = ls_sz x) (n3 : ∀ y, y < x.2.2.1 → wo' (16 * (8 * (N + 2) + f) + y) = x.2.2.2 y) : ls_YA ge' sz' wo' (N + 1) hp (ls_add A N (ls_set C f x)) := by
  intro k hk h0 g hg
  have hh := h k hk h0 g hg
  have h16 := hs k hk g hg
  by_cases e : k = N + 2
  · subst e
    rw [ls_add_s] at hh h16
    rw [ls_add_s]
    by_cases z : g = f
    · subst z
      rw [ls_set_s]
      exact ⟨n1, n2, n3⟩
    · rw [ls_set_n z, o1 _ (by omega), o2 _ (by omega)]
      exact ⟨hh.1, hh.2.1, fun y hy => by rw [o3 _ (by omega)]; exact hh.2.2 y hy⟩
  · rw [ls_add_n e] at hh h16
    rw [ls_add_n e, o1 _ (by omega), o2 _ (by omega)]
    exact ⟨hh.1, hh.2.1, fun y hy => by rw [o3 _ (by omega)]; exact hh.2.2 y hy⟩
end
section
variable {fl bl tl t p hp mo : Nat} {A : Nat → Nat → ls_FR} {M : Nat → Nat × Nat} {v : SY} {ge sz wo ca cb : Nat → Int32}
theorem ls_RYe {Q : SY → Prop} (h : ls_RY (fl, bl, tl, t, p, hp, mo, A, M) v) (k : ∀ ge sz wo ca cb, ls_YA ge sz wo (t + p) hp A → ls_YM ca cb (t + p) M → ls_RY (fl, bl, tl, t, p, hp, mo, A, M) ((nI fl), (nI bl), (nI tl), (nI t), (nI p), (nI hp), (nI mo), ge, sz, wo, ca, cb) → Q ((nI fl), (nI bl), (nI tl), (nI t), (nI p), (nI hp), (nI mo), ge, sz, wo, ca, cb)) : Q v := by
  obtain ⟨ge, sz, wo, ca, cb, rfl, hA, hM⟩ := h
  exact k ge sz wo ca cb hA hM ⟨ge, sz, wo, ca, cb, rfl, hA, hM⟩
theorem ls_yBad {post : Int32 → Prop} {x : Int32} (hf : fl ≤ 8) (kb : (x < 0 ∨ nI fl ≤ x) → post 1) (kg : ∀ f, x = nI f → f < fl → post 0) : wpY_badFile post ((nI fl), (nI bl), (nI tl), (nI t), (nI p), (nI hp), (nI mo), ge, sz, wo, ca, cb) x := by
  unfold wpY_badFile
  refine br_c (fun z => kb (Or.inl z)) (fun z => ?_)
  obtain ⟨j, hj, rfl⟩ := nI_of z
  exact pk_lt j fl (fun y => kg j rfl y) (fun y => kb (Or.inr (nI_le y hj))) rfl rfl hj (by omega)
theorem ls_yPre1 {post : Int32 → SY → Prop} {F : Nat → Int32 × ls_C} {B : Prop} {x : Int32} (w : ls_CW (fl, bl, tl, t, p, hp, mo, A, M)) (hX : ls_RY (fl, bl, tl, t, p, hp, mo, A, M) ((nI fl), (nI bl), (nI tl), (nI t), (nI p), (nI hp), (nI mo), ge, sz, wo, ca, cb))
    (k : ∀ u', ls_RY (ls_c1 (fl, bl, tl, t, p, hp, mo, A, M) x F).2 u' → post (ls_c1 (fl, bl, tl, t, p, hp, mo, A, M) x F).1 u')
    (kg : ∀ f, mo ≠ 0 → x = nI f → f < fl → (∀ u', ls_RY (F f).2 u' → post (F f).1 u') → B) :
    (nI mo = 0 → post (-1) ((nI fl), (nI bl), (nI tl), (nI t), (nI p), (nI hp), (nI mo), ge, sz, wo, ca, cb)) ∧ (¬ nI mo = 0 → wpY_badFile (fun r => ((r = 0 → B) ∧ (¬ r = 0 → post (-2) ((nI fl), (nI bl), (nI tl), (nI t), (nI p), (nI hp), (nI mo), ge, sz, wo, ca, cb)))) ((nI fl), (nI bl), (nI tl), (nI t), (nI p), (nI hp), (nI mo), ge, sz, wo, ca, cb) x) := by
  have hm := w.1.2.2.2.2.2.2.1
  unfold ls_c1 at k
  dsimp only at k
  refine pk_eq mo 0 (fun z => ?_) (fun z => ?_) rfl rfl (by omega) (by decide)
  · rw [if_pos z] at k; exact k _ hX
  · rw [if_neg z] at k
    refine ls_yBad w.1.2.1 (fun b => ?_) (fun f e hf => ?_)
    · rw [if_pos b] at k; exact br_f (by decide) (k _ hX)
    · subst e
      have hf8 : fl ≤ 8 := w.1.2.1
      rw [if_neg (ls_nbad hf hf8), nI_clamp (by omega)] at k
      exact br_t rfl (kg f z rfl hf k)
theorem ls_yPre2 {post : Int32 → SY → Prop} {F : Nat → Nat → Int32 × ls_C} {B : Prop} {x y : Int32} (w : ls_CW (fl, bl, tl, t, p, hp, mo, A, M)) (hX : ls_RY (fl, bl, tl, t, p, hp, mo, A, M) ((nI fl), (nI bl), (nI tl), (nI t), (nI p), (nI hp), (nI mo), ge, sz, wo, ca, cb))
    (k : ∀ u', ls_RY (ls_c2 (fl, bl, tl, t, p, hp, mo, A, M) x y F).2 u' → post (ls_c2 (fl, bl, tl, t, p, hp, mo, A, M) x y F).1 u')
    (kg : ∀ f g, mo ≠ 0 → x = nI f → f < fl → y = nI g → g < fl → (∀ u', ls_RY (F f g).2 u' → post (F f g).1 u') → B) :
    (nI mo = 0 → post (-1) ((nI fl), (nI bl), (nI tl), (nI t), (nI p), (nI hp), (nI mo), ge, sz, wo, ca, cb)) ∧ (¬ nI mo = 0 → wpY_badFile (fun r => ((r = 0 → wpY_badFile (fun r => ((r = 0 → B) ∧ (¬ r = 0 → post (-2) ((nI fl), (nI bl), (nI tl), (nI t), (nI p), (nI hp), (nI mo), ge, sz, wo, ca, cb)))) ((nI fl), (nI bl), (nI tl), (nI t), (nI p), (nI hp), (nI mo), ge, sz, wo, ca, cb) y) ∧ (¬ r = 0 → post (-2) ((nI fl), (nI bl), (nI tl), (nI t), (nI p), (nI hp), (nI mo), ge, sz, wo, ca, cb)))) ((nI fl), (nI bl), (nI tl), (nI t), (nI p), (nI hp), (nI mo), ge, sz, wo, ca, cb) x) := by
  have hm := w.1.2.2.2.2.2.2.1
  have hf8 : fl ≤ 8 := w.1.2.1
  unfold ls_c2 at k
  dsimp only at k
  refine pk_eq mo 0 (fun z => ?_) (fun z => ?_) rfl rfl (by omega) (by decide)
  · rw [if_pos z] at k; exact k _ hX
  · rw [if_neg z] at k
    refine ls_yBad w.1.2.1 (fun b => ?_) (fun f e hf => ?_)
    · rw [if_pos b] at k; exact br_f (by decide) (k _ hX)
    · subst e
      rw [if_neg (ls_nbad hf hf8), nI_clamp (by omega)] at k
      refine br_t rfl (ls_yBad w.1.2.1 (fun b => ?_) (fun g e hg => ?_))
      · rw [if_pos b] at k; exact br_f (by decide) (k _ hX)
      · subst e
        rw [if_neg (ls_nbad hg hf8), nI_clamp (by omega)] at k
        exact br_t rfl (kg f g z rfl hf rfl hg k)
theorem ls_yCur {post : Int32 → Prop} {f : Nat} (k : post (nI (8 * (t + p + 1) + f))) : wpY_current post ((nI fl), (nI bl), (nI tl), (nI t), (nI p), (nI hp), (nI mo), ge, sz, wo, ca, cb) (nI f) := by
  unfold wpY_current
  dsimp only
  rw [nI_add, nI_1, ls_8, nI_add]
  exact k
theorem ls_yFull {post : Int32 → Prop} (ht : t + p ≤ tl) (hl : tl ≤ 24) (k0 : t + p < tl → post 0) (k1 : tl ≤ t + p → post 1) : wpY_full post ((nI fl), (nI bl), (nI tl), (nI t), (nI p), (nI hp), (nI mo), ge, sz, wo, ca, cb) := by
  unfold wpY_full
  exact pk_eq (t + p) tl (fun z => k1 (by omega)) (fun z => k0 (by omega)) (nI_add t p) rfl (by omega) (by omega)
theorem ls_yRaise {post : SY → Prop} {c g : Nat} (hc : c < 208) (hg : ge c = nI g) (hg2 : g < 16) (k : post ((nI fl), (nI bl), (nI tl), (nI t), (nI p), (nI hp), (nI mo), (upd ge c (nI ((g + 1) % 16))), sz, wo, ca, cb)) : wpY_raiseGeneration post ((nI fl), (nI bl), (nI tl), (nI t), (nI p), (nI hp), (nI mo), ge, sz, wo, ca, cb) (nI c) := by
  unfold wpY_raiseGeneration
  dsimp only
  rw [nI_clamp (by omega), hg, ls_16 (by omega)]
  exact ⟨vp_in_nI hc (by decide), by decide, vp_in_nI hc (by decide), nm_e k⟩
theorem ls_hs16 (w : ls_CW (fl, bl, tl, t, p, hp, mo, A, M)) : ∀ k, k ≤ t + p + 1 → ∀ g, g < 8 → (A k g).2.2.1 ≤ 16 := fun k hk g hg => (w.2.1 k hk g hg).1.2.2.1
theorem ls_yAdd {post : SY → Prop} {a b : Nat} (w : ls_CW (fl, bl, tl, t, p, hp, mo, A, M)) (ht : t + p < 24) (hA : ls_YA ge sz wo (t + p) hp A) (hM : ls_YM ca cb (t + p) M)
    (k : ∀ ge' sz' wo' ca' cb', ls_YA ge' sz' wo' (t + p + 1) hp (ls_add A (t + p) (A (t + p + 1))) → ls_YM ca' cb' (t + p + 1) (ls_mad M (t + p) a b) → (∀ k, k ≤ t + p + 2 → ∀ g, g < 8 → (ls_add A (t + p) (A (t + p + 1)) k g).2.2.1 ≤ 16) → post ((nI fl), (nI bl), (nI tl), (nI t), (nI (p + 1)), (nI hp), (nI mo), ge', sz', wo', ca', cb')) : wpY_addOperation post ((nI fl), (nI bl), (nI tl), (nI t), (nI p), (nI hp), (nI mo), ge, sz, wo, ca, cb) (nI a) (nI b) := by
  have hs := ls_hs16 w
  unfold wpY_addOperation
  refine nm_r (nI_add t p) ?_
  rw [nI_1, show nI (t + p) + 2 = nI (t + p + 2) from nI_add _ 2]
  refine ls_yCopy (by omega) (by omega) ?_
  dsimp only
  rw [nI_clamp (by omega)]
  refine ⟨vp_in_nI ht (by decide), nm_e ⟨vp_in_nI ht (by decide), nm_e (nm_r (nI_1 p) ?_)⟩⟩
  refine k _ _ _ _ _ (fun k hk h0 => ?_) (fun i hi => ?_) (fun k hk g hg => ?_)
  · by_cases e : k = t + p + 2
    · subst e
      rw [ls_add_s]
      exact ls_YSi (hs _ (by omega)) (hA (t + p + 1) (by omega) (fun z => by omega))
    · rw [ls_add_n e]
      exact ls_YSo (hs _ (by omega)) (hA k (by omega) h0) e
  · unfold ls_mad
    by_cases e : i = t + p
    · subst e
      rw [if_pos rfl, pk_us, pk_us]
      exact ⟨rfl, rfl⟩
    · rw [if_neg e, pk_un e, pk_un e]
      exact hM i (by omega)
  · by_cases e : k = t + p + 2
    · subst e
      rw [ls_add_s]
      exact hs _ (by omega) g hg
    · rw [ls_add_n e]
      exact hs k (by omega) g hg
theorem ls_sm_cut {F : Nat → Nat} {m : Nat} : ∀ d, (∀ g, m ≤ g → g < m + d → F g = 0) → ls_sm F (m + d) = ls_sm F m := by
  intro d
  induction d with
  | zero => intro _; rfl
  | succ d ih =>
    intro h
    show ls_sm F (m + d) + F (m + d) = _
    rw [ih (fun g a b => h g a (by omega)), h (m + d) (by omega) (by omega)]
    rfl
theorem ls_yUsed6 {post : Int32 → Prop} {k : Nat} {x2 x3 : Int32} {C : Nat → ls_FR} (hf : fl ≤ 8) (hk : k ≤ 25) (hw : ∀ g, g < fl → ls_WF (C g)) (h1 : ∀ g, g < fl → nI g = x2 → x3 = ls_sz (C g)) (h2 : ∀ g, g < fl → ¬ nI g = x2 → sz (8 * k + g) = ls_sz (C g)) (kp : post (nI (ls_sm (fun f => ls_bf (C f).2.2.1) fl))) :
    ∀ d g n, g + d = fl → d < n → wY_usedWith_6 post (nI k) x2 x3 (nI fl) (nI bl) (nI tl) (nI t) (nI p) (nI hp) (nI mo) ge sz wo ca cb n (nI (ls_sm (fun f => ls_bf (C f).2.2.1) g)) (nI g) := by
  intro d
  induction d with
  | zero =>
    intro g n hg hn
    obtain ⟨n, rfl⟩ : ∃ n', n = n' + 1 := ⟨n - 1, by omega⟩
    obtain rfl : g = fl := by omega
    exact br_t (nI_le (Nat.le_refl g) (by omega)) kp
  | succ d ih =>
    intro g n hg hn
    obtain ⟨n, rfl⟩ : ∃ n', n = n' + 1 := ⟨n - 1, by omega⟩
    have ihh := ih (g + 1) n (by omega) (by omega)
    have wg := hw g (by omega)
    have w3 := wg.2.2.1
    have e1 : ls_sm (fun f => ls_bf (C f).2.2.1) (g + 1) = ls_sm (fun f => ls_bf (C f).2.2.1) g + ls_bf (C g).2.2.1 := rfl
    rw [e1] at ihh
    have main : ∀ z0, z0 = ls_sz (C g) → wY_usedWith_37 post (wY_usedWith_6 post (nI k) x2 x3 (nI fl) (nI bl) (nI tl) (nI t) (nI p) (nI hp) (nI mo) ge sz wo ca cb n) (nI k) x2 x3 (nI (ls_sm (fun f => ls_bf (C f).2.2.1) g)) (nI g) z0 (nI fl) (nI bl) (nI tl) (nI t) (nI p) (nI hp) (nI mo) ge sz wo ca cb := by
      intro z0 ez
      subst ez
      unfold wY_usedWith_37
      refine br_c (fun z => ?_) (fun z => ?_)
      · have p0 := (ls_sz_lt wg).mp z
        rw [wg.2.2.2.1 p0] at ihh
        exact nm_r (nI_1 g) ihh
      · have p0 : (C g).1 ≠ 0 := fun y => z ((ls_sz_lt wg).mpr y)
        refine ⟨by decide, nm_r ?_ (nm_r (nI_1 g) ihh)⟩
        rw [ls_sz_p p0, ls_bfE (by omega), nI_add]
    refine br_f (nI_ge (by omega) (by omega)) (br_c (fun z => main _ (h1 g (by omega) z)) (fun z => ?_))
    rw [ls_8, nI_add, nI_clamp (by omega)]
    exact ⟨vp_in_nI (by omega) (by decide), main _ (h2 g (by omega) z)⟩
theorem ls_yUsed {post : Int32 → Prop} {k : Nat} {x2 x3 : Int32} {C : Nat → ls_FR} (hf : fl ≤ 8) (hk : k ≤ 25) (hw : ∀ g, g < 8 → ls_WF (C g)) (ha : ∀ g, fl ≤ g → g < 8 → (C g).1 = 0) (h1 : ∀ g, g < fl → nI g = x2 → x3 = ls_sz (C g)) (h2 : ∀ g, g < fl → ¬ nI g = x2 → sz (8 * k + g) = ls_sz (C g)) (kp : post (nI (ls_used C))) : wpY_usedWith post ((nI fl), (nI bl), (nI tl), (nI t), (nI p), (nI hp), (nI mo), ge, sz, wo, ca, cb) (nI k) x2 x3 := by
  unfold wpY_usedWith
  have e : ls_used C = ls_sm (fun f => ls_bf (C f).2.2.1) fl := by
    obtain ⟨d, hd⟩ : ∃ d, 8 = fl + d := ⟨8 - fl, by omega⟩
    unfold ls_used
    rw [hd]
    refine ls_sm_cut d (fun g a b => ?_)
    show ls_bf (C g).2.2.1 = 0
    rw [(hw g (by omega)).2.2.2.1 (ha g a (by omega))]
    rfl
  rw [e] at kp
  exact ⟨fl + 1, ls_yUsed6 hf hk (fun g hg => hw g (by omega)) h1 h2 kp fl 0 (fl + 1) (by omega) (by omega)⟩
end
end
section
/-! ===== the reference's operations ===== -/
/-- two places change -/
theorem ls_yMod2 {ge sz wo ge' sz' wo' : Nat → Int32} {C : Nat → ls_FR} {N hp a b : Nat} {A : Nat → Nat → ls_FR} {x z : ls_FR} (h : ls_YA ge sz wo (N + 1) hp (ls_add A N C)) (hs : ∀ k, k ≤ N + 2 → ∀ g, g < 8 → (ls_add A N C k g).2.2.1 ≤ 16) (ha : a < 8) (hb : b < 8)
    (o1 : ∀ j, j ≠ 8 * (N + 2) + a → j ≠ 8 * (N + 2) + b → ge' j = ge j) (o2 : ∀ j, j ≠ 8 * (N + 2) + a → j ≠ 8 * (N + 2) + b → sz' j = sz j)
    (o3 : ∀ j, (j < 16 * (8 * (N + 2) + a) ∨ 16 * (8 * (N + 2) + a) + 16 ≤ j) → (j < 16 * (8 * (N + 2) + b) ∨ 16 * (8 * (N + 2) + b) + 16 ≤ j) → wo' j = wo j)
    (n1 : a ≠ b → ge' (8 * (N + 2) + a) = nI x.2.1 ∧ sz' (8 * (N + 2) + a) = ls_sz x ∧ ∀ y, y < x.2.2.1 → wo' (16 * (8 * (N + 2) + a) + y) = x.2.2.2 y)
    (n2 : ge' (8 * (N + 2) + b) = nI z.2.1 ∧ sz' (8 * (N + 2) + b) = ls_sz z ∧ ∀ y, y < z.2.2.1 → wo' (16 * (8 * (N + 2) + b) + y) = z.2.2.2 y) : ls_YA ge' sz' wo' (N + 1) hp (ls_add A N (ls_set (ls_set C a x) b z)) := by
  intro k hk h0 g hg
  have hh := h k hk h0 g hg
  have h16 := hs k hk g hg
  by_cases e : k = N + 2
  · subst e
    rw [ls_add_s] at hh h16
    rw [ls_add_s]
    by_cases zb : g = b
    · subst zb
      rw [ls_set_s]
      exact n2
    · rw [ls_set_n zb]
      by_cases za : g = a
      · subst za
        rw [ls_set_s]
        exact n1 zb
      · rw [ls_set_n za, o1 _ (by omega) (by omega), o2 _ (by omega) (by omega)]
        exact ⟨hh.1, hh.2.1, fun y hy => by rw [o3 _ (by omega) (by omega)]; exact hh.2.2 y hy⟩
  · rw [ls_add_n e] at hh h16
    rw [ls_add_n e, o1 _ (by omega) (by omega), o2 _ (by omega) (by omega)]
    exact ⟨hh.1, hh.2.1, fun y hy => by rw [o3 _ (by omega) (by omega)]; exact hh.2.2 y hy⟩
def ls_zr (wo : Nat → Int32) (c a b : Nat) : Nat → Int32 := fun j => if 16 * c + a ≤ j ∧ j < 16 * c + b then 0 else wo j
theorem ls_zr0 (wo : Nat → Int32) (c a : Nat) : ls_zr wo c a a = wo := by
  funext j
  exact if_neg (by omega)
theorem ls_zrS (wo : Nat → Int32) {c a b : Nat} (h : a ≤ b) : upd (ls_zr wo c a b) (16 * c + b) 0 = ls_zr wo c a (b + 1) := by
  funext j
  by_cases e : j = 16 * c + b
  · subst e; rw [pk_us]; exact (if_pos (by omega)).symm
  · rw [pk_un e]
    unfold ls_zr
    by_cases z : 16 * c + a ≤ j ∧ j < 16 * c + b
    · rw [if_pos z, if_pos (by omega)]
    · rw [if_neg z, if_neg (by omega)]
theorem ls_zr_o {wo : Nat → Int32} {c a b j : Nat} (h : j < 16 * c + a ∨ 16 * c + b ≤ j) : ls_zr wo c a b j = wo j := if_neg (by omega)
theorem ls_zr_i {wo : Nat → Int32} {c a b j : Nat} (h : 16 * c + a ≤ j) (h2 : j < 16 * c + b) : ls_zr wo c a b j = 0 := if_pos ⟨h, h2⟩
theorem ls_16c (c y : Nat) : (nI c * 16) + nI y = nI (16 * c + y) := by
  rw [show (16 : Int32) = nI 16 from rfl, pk_mul, nI_add, Nat.mul_comm]
section
variable {fl bl tl tc pc hp mo : Int32} {ge sz wo ca cb : Nat → Int32}
theorem ls_yW126 {post : Int32 → SY → Prop} {y c s z : Nat} {v : Int32} (hy : y < 16) (hc : c < 208) (hs : s ≤ 16)
    (k : ∀ b, y ≤ b → s ≤ b → (b = s ∨ b = y) → post 0 (fl, bl, tl, tc, pc, hp, mo, ge, (upd sz c (nI z)), (upd (ls_zr wo c s b) (16 * c + y) v), ca, cb)) :
    ∀ d b n, (b + d = y ∨ (d = 0 ∧ y ≤ b ∧ b = s)) → s ≤ b → d < n → wY_write_126 post (nI y) v (nI z) (nI c) fl bl tl tc pc hp mo n (nI b) ge sz (ls_zr wo c s b) ca cb := by
  intro d
  induction d with
  | zero =>
    intro b n hb hsb hn
    obtain ⟨n, rfl⟩ : ∃ n', n = n' + 1 := ⟨n - 1, by omega⟩
    refine br_t (nI_le (by omega) (by omega)) ?_
    rw [ls_16c, nI_clamp (by omega), nI_clamp (by omega)]
    exact ⟨vp_in_nI (by omega) (by decide), nm_e ⟨vp_in_nI hc (by decide), nm_e (k b (by omega) hsb (by omega))⟩⟩
  | succ d ih =>
    intro b n hb hsb hn
    obtain ⟨n, rfl⟩ : ∃ n', n = n' + 1 := ⟨n - 1, by omega⟩
    refine br_f (nI_ge (by omega) (by omega)) ?_
    rw [ls_16c, nI_clamp (by omega)]
    refine ⟨vp_in_nI (by omega) (by decide), nm_r (ls_zrS wo hsb) (nm_r (nI_1 b) (ih (b + 1) n (by omega) (by omega) (by omega)))⟩
theorem ls_yT104 {post : Int32 → SY → Prop} {c s z g : Nat} (hz : z ≤ 16) (hc : c < 208) (hs : s ≤ 16) (hg : ge c = nI g) (hg2 : g < 16)
    (k : ∀ b, z ≤ b → s ≤ b → (b = s ∨ b = z) → post 0 (fl, bl, tl, tc, pc, hp, mo, (upd ge c (nI (if z = 0 then (g + 1) % 16 else g))), (upd sz c (nI z)), (ls_zr wo c s b), ca, cb)) :
    ∀ d b n, (b + d = z ∨ (d = 0 ∧ z ≤ b ∧ b = s)) → s ≤ b → d < n → wY_truncate_104 post (nI z) (nI c) fl bl tl tc pc hp mo n (nI b) ge sz (ls_zr wo c s b) ca cb := by
  intro d
  induction d with
  | zero =>
    intro b n hb hsb hn
    obtain ⟨n, rfl⟩ : ∃ n', n = n' + 1 := ⟨n - 1, by omega⟩
    refine br_t (nI_le (by omega) (by omega)) ?_
    rw [nI_clamp (by omega)]
    have kk := k b (by omega) hsb (by omega)
    refine ⟨vp_in_nI hc (by decide), nm_e (pk_eq z 0 (fun e => ?_) (fun e => ?_) rfl rfl (by omega) (by decide))⟩
    · rw [if_pos e] at kk
      unfold wpY_raiseGeneration
      dsimp only
      rw [nI_clamp (by omega), hg, ls_16 (by omega)]
      exact ⟨vp_in_nI hc (by decide), by decide, vp_in_nI hc (by decide), nm_e kk⟩
    · rw [if_neg e] at kk
      have eg : upd ge c (nI g) = ge := by
        funext j
        by_cases y : j = c
        · subst y; rw [pk_us, hg]
        · exact pk_un y
      rw [eg] at kk
      exact kk
  | succ d ih =>
    intro b n hb hsb hn
    obtain ⟨n, rfl⟩ : ∃ n', n = n' + 1 := ⟨n - 1, by omega⟩
    refine br_f (nI_ge (by omega) (by omega)) ?_
    rw [ls_16c, nI_clamp (by omega)]
    refine ⟨vp_in_nI (by omega) (by decide), nm_r (ls_zrS wo hsb) (nm_r (nI_1 b) (ih (b + 1) n (by omega) (by omega) (by omega)))⟩
end
/-! swapping -/
def ls_sw (wo : Nat → Int32) (a b m : Nat) : Nat → Int32 := fun j => if 16 * a ≤ j ∧ j < 16 * a + m then wo (16 * b + (j - 16 * a)) else if 16 * b ≤ j ∧ j < 16 * b + m then wo (16 * a + (j - 16 * b)) else wo j
theorem ls_sw0 (wo : Nat → Int32) (a b : Nat) : ls_sw wo a b 0 = wo := by
  funext j
  unfold ls_sw
  rw [if_neg (by omega), if_neg (by omega)]
theorem ls_sw_o {wo : Nat → Int32} {a b m j : Nat} (h1 : j < 16 * a ∨ 16 * a + m ≤ j) (h2 : j < 16 * b ∨ 16 * b + m ≤ j) : ls_sw wo a b m j = wo j := by
  unfold ls_sw
  rw [if_neg (by omega), if_neg (by omega)]
theorem ls_sw_a {wo : Nat → Int32} {a b m i : Nat} (h : i < m) : ls_sw wo a b m (16 * a + i) = wo (16 * b + i) := by
  unfold ls_sw
  rw [if_pos (by omega)]
  exact congrArg wo (by omega)
theorem ls_sw_b {wo : Nat → Int32} {a b m i : Nat} (ne : a ≠ b) (hm : m ≤ 16) (h : i < m) : ls_sw wo a b m (16 * b + i) = wo (16 * a + i) := by
  unfold ls_sw
  rw [if_neg (by omega), if_pos (by omega)]
  exact congrArg wo (by omega)
theorem ls_swS (wo : Nat → Int32) {a b m : Nat} (ne : a ≠ b) (hm : m < 16) : upd (upd (ls_sw wo a b m) (16 * a + m) (ls_sw wo a b m (16 * b + m))) (16 * b + m) (ls_sw wo a b m (16 * a + m)) = ls_sw wo a b (m + 1) := by
  rw [ls_sw_o (j := 16 * b + m) (by omega) (by omega), ls_sw_o (j := 16 * a + m) (by omega) (by omega)]
  funext j
  by_cases e1 : j = 16 * b + m
  · subst e1
    rw [pk_us, ls_sw_b ne (by omega) (by omega)]
  · rw [pk_un e1]
    by_cases e2 : j = 16 * a + m
    · subst e2
      rw [pk_us, ls_sw_a (by omega)]
    · rw [pk_un e2]
      unfold ls_sw
      by_cases z : 16 * a ≤ j ∧ j < 16 * a + m
      · rw [if_pos z, if_pos (by omega)]
      · rw [if_neg z, if_neg (c := 16 * a ≤ j ∧ j < 16 * a + (m + 1)) (by omega)]
        by_cases y : 16 * b ≤ j ∧ j < 16 * b + m
        · rw [if_pos y, if_pos (by omega)]
        · rw [if_neg y, if_neg (by omega)]
section
variable {fl bl tl tc pc hp mo : Int32} {ge sz wo ca cb : Nat → Int32}
theorem ls_yS29 {post : SY → Prop} {a b : Nat} (ha : a < 208) (hb : b < 208) (ne : a ≠ b) (k : post (fl, bl, tl, tc, pc, hp, mo, ge, sz, (ls_sw wo a b 16), ca, cb)) :
    ∀ d y n, y + d = 16 → d < n → wY_swapContents_29 post (nI a) (nI b) fl bl tl tc pc hp mo n (nI y) ge sz (ls_sw wo a b y) ca cb := by
  intro d
  induction d with
  | zero =>
    intro y n hy hn
    obtain ⟨n, rfl⟩ : ∃ n', n = n' + 1 := ⟨n - 1, by omega⟩
    obtain rfl : y = 16 := by omega
    exact br_t (nI_le (a := 16) (by omega) (by decide)) k
  | succ d ih =>
    intro y n hy hn
    obtain ⟨n, rfl⟩ : ∃ n', n = n' + 1 := ⟨n - 1, by omega⟩
    refine br_f (nI_ge (b := 16) (by omega) (by decide)) ?_
    rw [ls_16c, ls_16c, nI_clamp (by omega), nI_clamp (by omega)]
    refine ⟨vp_in_nI (by omega) (by decide), nm_e ⟨vp_in_nI (by omega) (by decide), vp_in_nI (by omega) (by decide), nm_e ⟨vp_in_nI (by omega) (by decide), nm_r (ls_swS wo ne (by omega)) (nm_r (nI_1 y) (ih (y + 1) n (by omega) (by omega)))⟩⟩⟩
theorem ls_ySwap {post : SY → Prop} {a b : Nat} (ha : a < 208) (hb : b < 208) (ne : a ≠ b) (k : post (fl, bl, tl, tc, pc, hp, mo, ge, (upd (upd sz a (sz b)) b (sz a)), (ls_sw wo a b 16), ca, cb)) : wpY_swapContents post (fl, bl, tl, tc, pc, hp, mo, ge, sz, wo, ca, cb) (nI a) (nI b) := by
  unfold wpY_swapContents
  dsimp only
  rw [nI_clamp (by omega), nI_clamp (by omega)]
  have m := ls_yS29 (sz := upd (upd sz a (sz b)) b (sz a)) ha hb ne k 16 0 17 (by omega) (by omega)
  rw [ls_sw0] at m
  exact ⟨vp_in_nI ha (by decide), nm_e ⟨vp_in_nI hb (by decide), vp_in_nI ha (by decide), nm_e ⟨vp_in_nI hb (by decide), nm_e ⟨17, m⟩⟩⟩⟩
end
section
variable {fl bl tl t p hp mo : Nat} {A : Nat → Nat → ls_FR} {M : Nat → Nat × Nat} {v : SY} {ge sz wo ca cb : Nat → Int32} {post : Int32 → SY → Prop}
theorem ls_yFin {a b x y : Nat} {xA xB : ls_FR} (hA : ls_YA ge sz wo (t + p + 1) hp (ls_add A (t + p) (ls_set (ls_set (A (t + p + 1)) a xA) b xB))) (hM : ls_YM ca cb (t + p + 1) (ls_mad M (t + p) x y)) : ls_RY (ls_op (fl, bl, tl, t, p, hp, mo, A, M) a b x y xA xB) ((nI fl), (nI bl), (nI tl), (nI t), (nI (p + 1)), (nI hp), (nI mo), ge, sz, wo, ca, cb) :=
  ⟨ge, sz, wo, ca, cb, rfl, hA, hM⟩
theorem ls_yFin1 {f : Nat} {x : ls_FR} (hA : ls_YA ge sz wo (t + p + 1) hp (ls_add A (t + p) (ls_set (A (t + p + 1)) f x))) (hM : ls_YM ca cb (t + p + 1) (ls_mad M (t + p) f f)) : ls_RY (ls_op (fl, bl, tl, t, p, hp, mo, A, M) f f f f x x) ((nI fl), (nI bl), (nI tl), (nI t), (nI (p + 1)), (nI hp), (nI mo), ge, sz, wo, ca, cb) := by
  refine ls_yFin ?_ hM
  rw [ls_used_11 rfl]
  exact hA
theorem ls_yCreate {x : Int32} (w : ls_CW (fl, bl, tl, t, p, hp, mo, A, M)) (hX : ls_RY (fl, bl, tl, t, p, hp, mo, A, M) v)
    (k : ∀ u', ls_RY (ls_c1 (fl, bl, tl, t, p, hp, mo, A, M) x (ls_fCreate (fl, bl, tl, t, p, hp, mo, A, M))).2 u' → post (ls_c1 (fl, bl, tl, t, p, hp, mo, A, M) x (ls_fCreate (fl, bl, tl, t, p, hp, mo, A, M))).1 u') : wpY_create post v x := by
  refine ls_RYe (Q := fun u => wpY_create post u x) hX ?_
  clear hX
  intro ge sz wo ca cb hA hM hX
  unfold wpY_create
  refine ls_yPre1 w hX k (fun f m0 ef hf k' => ?_)
  clear k
  subst ef
  have k := k'
  clear k'
  have w1 := w.1
  have f8 : f < 8 := by omega
  have hwf := (w.2.1 (t + p + 1) (Nat.le_refl _) f f8).1
  have hy := hA (t + p + 1) (Nat.le_refl _) (fun z => by omega) f f8
  refine ls_yCur ?_
  rw [nI_clamp (by omega), hy.2.1]
  refine ⟨vp_in_nI (by omega) (by decide), ?_⟩
  unfold ls_fCreate at k
  dsimp only at k
  refine br_c (fun z => ?_) (fun z => ?_)
  · have p0 := (ls_sz_lt hwf).mp z
    rw [if_pos p0] at k
    refine ls_yFull (by omega) (by omega) (fun hl => ?_) (fun hl => ?_)
    · rw [if_neg (by omega)] at k
      refine br_t rfl ?_
      refine ls_yAdd w (by omega) hA hM (fun ge' sz' wo' ca' cb' hA' hM' hs' => ?_)
      refine ls_yCur (p := p + 1) ?_
      have hc : 8 * (t + (p + 1) + 1) + f < 208 := by omega
      rw [nI_clamp (by omega)]
      refine ⟨vp_in_nI hc (by decide), nm_e ?_⟩
      have hn := hA' (t + p + 2) (Nat.le_refl _) (fun z => by omega) f f8
      rw [ls_add_s] at hn
      refine ls_yRaise (p := p + 1) hc hn.1 hwf.2.1 ?_
      refine k _ (ls_yFin1 (ls_yMod hA' hs' f8 (fun j hj => pk_un hj) (fun j hj => pk_un hj) (fun j hj => rfl) pk_us pk_us (fun y hy => absurd hy (Nat.not_lt_zero _))) hM')
    · rw [if_pos hl] at k; exact br_f (by decide) (k _ hX)
  · have p0 : (A (t + p + 1) f).1 ≠ 0 := fun y => z ((ls_sz_lt hwf).mpr y)
    rw [if_neg p0] at k; exact k _ hX
theorem ls_yRemove {x : Int32} (w : ls_CW (fl, bl, tl, t, p, hp, mo, A, M)) (hX : ls_RY (fl, bl, tl, t, p, hp, mo, A, M) v)
    (k : ∀ u', ls_RY (ls_c1 (fl, bl, tl, t, p, hp, mo, A, M) x (ls_fRemove (fl, bl, tl, t, p, hp, mo, A, M))).2 u' → post (ls_c1 (fl, bl, tl, t, p, hp, mo, A, M) x (ls_fRemove (fl, bl, tl, t, p, hp, mo, A, M))).1 u') : wpY_remove post v x := by
  refine ls_RYe (Q := fun u => wpY_remove post u x) hX ?_
  clear hX
  intro ge sz wo ca cb hA hM hX
  unfold wpY_remove
  refine ls_yPre1 w hX k (fun f m0 ef hf k' => ?_)
  clear k
  subst ef
  have k := k'
  clear k'
  have w1 := w.1
  have f8 : f < 8 := by omega
  have hwf := (w.2.1 (t + p + 1) (Nat.le_refl _) f f8).1
  have hy := hA (t + p + 1) (Nat.le_refl _) (fun z => by omega) f f8
  refine ls_yCur ?_
  rw [nI_clamp (by omega), hy.2.1]
  refine ⟨vp_in_nI (by omega) (by decide), ?_⟩
  unfold ls_fRemove at k
  dsimp only at k
  refine br_c (fun z => ?_) (fun z => ?_)
  · have p0 := (ls_sz_ge hwf).mp z
    rw [if_neg p0] at k
    refine ls_yFull (by omega) (by omega) (fun hl => ?_) (fun hl => ?_)
    · rw [if_neg (by omega)] at k
      refine br_t rfl ?_
      refine ls_yAdd w (by omega) hA hM (fun ge' sz' wo' ca' cb' hA' hM' hs' => ?_)
      refine ls_yCur (p := p + 1) ?_
      have hc : 8 * (t + (p + 1) + 1) + f < 208 := by omega
      rw [nI_clamp (by omega)]
      refine ⟨vp_in_nI hc (by decide), nm_e ?_⟩
      have hn := hA' (t + p + 2) (Nat.le_refl _) (fun z => by omega) f f8
      rw [ls_add_s] at hn
      refine k _ (ls_yFin1 (ls_yMod hA' hs' f8 (fun j hj => rfl) (fun j hj => pk_un hj) (fun j hj => rfl) hn.1 pk_us (fun y hy => absurd hy (Nat.not_lt_zero _))) hM')
    · rw [if_pos hl] at k; exact br_f (by decide) (k _ hX)
  · have p0 : (A (t + p + 1) f).1 = 0 := Classical.byContradiction (fun y => z ((ls_sz_ge hwf).mpr y))
    rw [if_pos p0] at k; exact k _ hX
end
end
section
/-! ===== write, truncate, rename, exchange of the reference ===== -/
theorem ls_sz1 {g s : Nat} {w : Nat → Int32} : ls_sz (1, g, s, w) = nI s := if_neg (show ¬ (1 : Nat) = 0 by omega)
section
variable {fl bl tl t p hp mo : Nat} {A : Nat → Nat → ls_FR} {M : Nat → Nat × Nat} {v : SY} {ge sz wo ca cb : Nat → Int32} {post : Int32 → SY → Prop}
theorem ls_yUsedN {post : Int32 → Prop} {f sn : Nat} {x : ls_FR} (w : ls_CW (fl, bl, tl, t, p, hp, mo, A, M)) (hA : ls_YA ge sz wo (t + p) hp A) (hf : f < fl) (hx : ls_WF x) (hp1 : x.1 ≠ 0) (hs : x.2.2.1 = sn)
    (k : post (nI (ls_used (ls_set (A (t + p + 1)) f x)))) : wpY_usedWith post ((nI fl), (nI bl), (nI tl), (nI t), (nI p), (nI hp), (nI mo), ge, sz, wo, ca, cb) (nI (t + p + 1)) (nI f) (nI sn) := by
  have w1 := w.1
  refine ls_yUsed (C := ls_set (A (t + p + 1)) f x) w1.2.1 (by omega) (fun g hg => ?_) (fun g hg g8 => ?_) (fun g hg e => ?_) (fun g hg e => ?_) k
  · by_cases z : g = f
    · subst z; rw [ls_set_s]; exact hx
    · rw [ls_set_n z]; exact (w.2.1 _ (Nat.le_refl _) g hg).1
  · rw [ls_set_n (by omega)]; exact (w.2.1 _ (Nat.le_refl _) g g8).2 hg
  · have z : g = f := (nI_eq (by omega) (by omega)).mp e
    subst z
    rw [ls_set_s, ls_sz_p hp1, hs]
  · have z : g ≠ f := fun y => e (by rw [y])
    rw [ls_set_n z]
    exact (hA (t + p + 1) (Nat.le_refl _) (fun z => by omega) g (by omega)).2.1
theorem ls_yWrite {x y d : Int32} (w : ls_CW (fl, bl, tl, t, p, hp, mo, A, M)) (hX : ls_RY (fl, bl, tl, t, p, hp, mo, A, M) v)
    (k : ∀ u', ls_RY (ls_c1 (fl, bl, tl, t, p, hp, mo, A, M) x (ls_fWrite (fl, bl, tl, t, p, hp, mo, A, M) y d)).2 u' → post (ls_c1 (fl, bl, tl, t, p, hp, mo, A, M) x (ls_fWrite (fl, bl, tl, t, p, hp, mo, A, M) y d)).1 u') : wpY_write post v x y d := by
  refine ls_RYe (Q := fun u => wpY_write post u x y d) hX ?_
  clear hX
  intro ge sz wo ca cb hA hM hX
  unfold wpY_write
  refine ls_yPre1 w hX k (fun f m0 ef hf k' => ?_)
  clear k
  subst ef
  have k := k'
  clear k'
  have w1 := w.1
  have f8 : f < 8 := by omega
  have hwf := (w.2.1 (t + p + 1) (Nat.le_refl _) f f8).1
  have h16 := hwf.2.2.1
  have hy := hA (t + p + 1) (Nat.le_refl _) (fun z => by omega) f f8
  refine ls_yCur ?_
  rw [nI_clamp (by omega), hy.2.1]
  refine ⟨vp_in_nI (by omega) (by decide), nm_e ?_⟩
  unfold ls_fWrite at k
  dsimp only at k
  refine br_c (fun z => ?_) (fun z => ?_)
  · have p0 := (ls_sz_ge hwf).mp z
    rw [if_neg p0] at k
    rw [ls_sz_p p0]
    refine br_c (fun y0 => ?_) (fun y0 => ?_)
    · rw [if_pos (Or.inl y0)] at k; exact k _ hX
    · obtain ⟨y, hy', rfl⟩ := nI_of y0
      refine pk_lt y 16 (fun y1 => ?_) (fun y1 => ?_) rfl rfl hy' (by decide)
      · rw [if_neg (by
          rintro (z | z)
          · exact y0 z
          · exact nI_ge (b := 16) y1 (by decide) z), nI_clamp hy'] at k
        have main : wY_write_69 post (nI f) (nI y) d (nI (A (t + p + 1) f).2.2.1) (nI (ls_nz (A (t + p + 1) f).2.2.1 y)) (nI fl) (nI bl) (nI tl) (nI t) (nI p) (nI hp) (nI mo) ge sz wo ca cb := by
          unfold wY_write_69
          have hub := w.2.2.1 (t + p + 1) (Nat.le_refl _)
          have hus := ls_used_set (C := A (t + p + 1)) (x := ls_rW (A (t + p + 1) f) y d) f8
          have hbf : ls_bf (ls_rW (A (t + p + 1) f) y d).2.2.1 ≤ 5 := by
            have a := (ls_wW (v := d) hwf y1).2.2.1
            unfold ls_bf
            omega
          rw [nI_add, nI_1]
          refine ls_yUsedN w hA hf (ls_wW (v := d) hwf y1) (show ¬ (1 : Nat) = 0 by omega) rfl ?_
          refine pk_le _ bl (fun hl => ?_) (fun hl => ?_) rfl rfl (by omega) (by omega)
          · rw [if_neg (by omega)] at k
            refine ls_yFull (by omega) (by omega) (fun hl => ?_) (fun hl => ?_)
            · rw [if_neg (by omega)] at k
              refine br_t rfl ?_
              refine ls_yAdd w (by omega) hA hM (fun ge' sz' wo' ca' cb' hA' hM' hs' => ?_)
              refine ls_yCur (p := p + 1) ?_
              have hc : 8 * (t + (p + 1) + 1) + f < 208 := by omega
              have hn := hA' (t + p + 2) (Nat.le_refl _) (fun z => by omega) f f8
              rw [ls_add_s] at hn
              suffices fin : ∀ b, y ≤ b → (A (t + p + 1) f).2.2.1 ≤ b → (b = (A (t + p + 1) f).2.2.1 ∨ b = y) → post 0 ((nI fl), (nI bl), (nI tl), (nI t), (nI (p + 1)), (nI hp), (nI mo), ge', (upd sz' (8 * (t + (p + 1) + 1) + f) (nI (ls_nz (A (t + p + 1) f).2.2.1 y))), (upd (ls_zr wo' (8 * (t + (p + 1) + 1) + f) (A (t + p + 1) f).2.2.1 b) (16 * (8 * (t + (p + 1) + 1) + f) + y) d), ca', cb') by
                have m := ls_yW126 (ge := ge') (sz := sz') (wo := wo') (ca := ca') (cb := cb') (c := 8 * (t + (p + 1) + 1) + f) y1 hc h16 fin (y - (A (t + p + 1) f).2.2.1) (A (t + p + 1) f).2.2.1 (y - (A (t + p + 1) f).2.2.1 + 1) (by omega) (Nat.le_refl _) (by omega)
                rw [ls_zr0] at m
                exact ⟨_, m⟩
              intro b b1 b2 b3
              refine k _ (ls_yFin1 (ls_yMod hA' hs' f8 (fun j hj => rfl) (fun j hj => pk_un hj) (fun j hj => ?_) hn.1 ?_ (fun i hi => ?_)) hM')
              · show upd (ls_zr wo' (8 * (t + p + 2) + f) (A (t + p + 1) f).2.2.1 b) (16 * (8 * (t + p + 2) + f) + y) d j = wo' j
                rw [pk_un (by omega), ls_zr_o (by omega)]
              · show upd sz' (8 * (t + p + 2) + f) (nI (ls_nz (A (t + p + 1) f).2.2.1 y)) (8 * (t + p + 2) + f) = _
                rw [pk_us]
                exact ls_sz1.symm
              · have hi' : i < ls_nz (A (t + p + 1) f).2.2.1 y := hi
                show upd (ls_zr wo' (8 * (t + p + 2) + f) (A (t + p + 1) f).2.2.1 b) (16 * (8 * (t + p + 2) + f) + y) d (16 * (8 * (t + p + 2) + f) + i) = upd (A (t + p + 1) f).2.2.2 y d i
                by_cases e : i = y
                · subst e; rw [pk_us, pk_us]
                · rw [pk_un (by omega), pk_un e]
                  unfold ls_nz at hi'
                  by_cases l : i < (A (t + p + 1) f).2.2.1
                  · rw [ls_zr_o (by omega)]; exact hn.2.2 i l
                  · rw [ls_zr_i (by omega) (by split at hi' <;> omega)]
                    exact (hwf.2.2.2.2 i (by omega)).symm
            · rw [if_pos hl] at k; exact br_f (by decide) (k _ hX)
          · rw [if_pos hl] at k; exact k _ hX
        rw [nI_1]
        refine pk_le (y + 1) (A (t + p + 1) f).2.2.1 (fun z => ?_) (fun z => ?_) rfl rfl (by omega) (by omega)
        · rw [show ls_nz (A (t + p + 1) f).2.2.1 y = (A (t + p + 1) f).2.2.1 from if_pos (by omega)] at main
          exact main
        · rw [show ls_nz (A (t + p + 1) f).2.2.1 y = y + 1 from if_neg (by omega)] at main
          exact main
      · have y2 : (16 : Int32) ≤ nI y := nI_le (a := 16) y1 hy'
        rw [if_pos (Or.inr y2)] at k; exact k _ hX
  · have p0 : (A (t + p + 1) f).1 = 0 := Classical.byContradiction (fun y => z ((ls_sz_ge hwf).mpr y))
    rw [if_pos p0] at k; exact k _ hX
theorem ls_yTrunc {x y : Int32} (w : ls_CW (fl, bl, tl, t, p, hp, mo, A, M)) (hX : ls_RY (fl, bl, tl, t, p, hp, mo, A, M) v)
    (k : ∀ u', ls_RY (ls_c1 (fl, bl, tl, t, p, hp, mo, A, M) x (ls_fTrunc (fl, bl, tl, t, p, hp, mo, A, M) y)).2 u' → post (ls_c1 (fl, bl, tl, t, p, hp, mo, A, M) x (ls_fTrunc (fl, bl, tl, t, p, hp, mo, A, M) y)).1 u') : wpY_truncate post v x y := by
  refine ls_RYe (Q := fun u => wpY_truncate post u x y) hX ?_
  clear hX
  intro ge sz wo ca cb hA hM hX
  unfold wpY_truncate
  refine ls_yPre1 w hX k (fun f m0 ef hf k' => ?_)
  clear k
  subst ef
  have k := k'
  clear k'
  have w1 := w.1
  have f8 : f < 8 := by omega
  have hwf := (w.2.1 (t + p + 1) (Nat.le_refl _) f f8).1
  have h16 := hwf.2.2.1
  have hy := hA (t + p + 1) (Nat.le_refl _) (fun z => by omega) f f8
  refine ls_yCur ?_
  rw [nI_clamp (by omega), hy.2.1]
  refine ⟨vp_in_nI (by omega) (by decide), nm_e ?_⟩
  unfold ls_fTrunc at k
  dsimp only at k
  refine br_c (fun z => ?_) (fun z => ?_)
  · have p0 := (ls_sz_ge hwf).mp z
    rw [if_neg p0] at k
    rw [ls_sz_p p0]
    refine br_c (fun y0 => ?_) (fun y0 => ?_)
    · rw [if_pos (Or.inl y0)] at k; exact k _ hX
    · obtain ⟨s, hs, rfl⟩ := nI_of y0
      refine br_c (fun y1' => ?_) (fun y1' => ?_)
      · have y1 : s ≤ 16 := by rw [show (16 : Int32) = nI 16 from rfl, nI_leI hs (by decide)] at y1'; exact y1'
        rw [if_neg (by
          rintro (z | z)
          · exact y0 z
          · exact z y1'), nI_clamp hs] at k
        have hub := w.2.2.1 (t + p + 1) (Nat.le_refl _)
        have hus := ls_used_set (C := A (t + p + 1)) (x := ls_rT (A (t + p + 1) f) s) f8
        have hbf : ls_bf (ls_rT (A (t + p + 1) f) s).2.2.1 ≤ 5 := by
          show ls_bf s ≤ 5
          unfold ls_bf
          omega
        rw [nI_add, nI_1]
        refine ls_yUsedN w hA hf (ls_wT hwf y1) (show ¬ (1 : Nat) = 0 by omega) rfl ?_
        refine pk_le _ bl (fun hl => ?_) (fun hl => ?_) rfl rfl (by omega) (by omega)
        · rw [if_neg (by omega)] at k
          refine ls_yFull (by omega) (by omega) (fun hl => ?_) (fun hl => ?_)
          · rw [if_neg (by omega)] at k
            refine br_t rfl ?_
            refine ls_yAdd w (by omega) hA hM (fun ge' sz' wo' ca' cb' hA' hM' hs' => ?_)
            refine ls_yCur (p := p + 1) ?_
            have hc : 8 * (t + (p + 1) + 1) + f < 208 := by omega
            have hn := hA' (t + p + 2) (Nat.le_refl _) (fun z => by omega) f f8
            rw [ls_add_s] at hn
            suffices fin : ∀ b, s ≤ b → (A (t + p + 1) f).2.2.1 ≤ b → (b = (A (t + p + 1) f).2.2.1 ∨ b = s) → post 0 ((nI fl), (nI bl), (nI tl), (nI t), (nI (p + 1)), (nI hp), (nI mo), (upd ge' (8 * (t + (p + 1) + 1) + f) (nI (if s = 0 then ((A (t + p + 1) f).2.1 + 1) % 16 else (A (t + p + 1) f).2.1))), (upd sz' (8 * (t + (p + 1) + 1) + f) (nI s)), (ls_zr wo' (8 * (t + (p + 1) + 1) + f) (A (t + p + 1) f).2.2.1 b), ca', cb') by
              have m := ls_yT104 (ge := ge') (sz := sz') (wo := wo') (ca := ca') (cb := cb') (c := 8 * (t + (p + 1) + 1) + f) y1 hc h16 hn.1 hwf.2.1 fin (s - (A (t + p + 1) f).2.2.1) (A (t + p + 1) f).2.2.1 (s - (A (t + p + 1) f).2.2.1 + 1) (by omega) (Nat.le_refl _) (by omega)
              rw [ls_zr0] at m
              exact ⟨_, m⟩
            intro b b1 b2 b3
            refine k _ (ls_yFin1 (ls_yMod hA' hs' f8 (fun j hj => pk_un hj) (fun j hj => pk_un hj) (fun j hj => ?_) pk_us ?_ (fun i hi => ?_)) hM')
            · show ls_zr wo' (8 * (t + p + 2) + f) (A (t + p + 1) f).2.2.1 b j = wo' j
              rw [ls_zr_o (by omega)]
            · show upd sz' (8 * (t + p + 2) + f) (nI s) (8 * (t + p + 2) + f) = _
              rw [pk_us]
              exact ls_sz1.symm
            · have hi' : i < s := hi
              show ls_zr wo' (8 * (t + p + 2) + f) (A (t + p + 1) f).2.2.1 b (16 * (8 * (t + p + 2) + f) + i) = if i < s then (A (t + p + 1) f).2.2.2 i else 0
              rw [if_pos hi']
              by_cases l : i < (A (t + p + 1) f).2.2.1
              · rw [ls_zr_o (by omega)]; exact hn.2.2 i l
              · rw [ls_zr_i (by omega) (by omega)]
                exact (hwf.2.2.2.2 i (by omega)).symm
          · rw [if_pos hl] at k; exact br_f (by decide) (k _ hX)
        · rw [if_pos hl] at k; exact k _ hX
      · rw [if_pos (Or.inr y1')] at k; exact k _ hX
  · have p0 : (A (t + p + 1) f).1 = 0 := Classical.byContradiction (fun y => z ((ls_sz_ge hwf).mpr y))
    rw [if_pos p0] at k; exact k _ hX
theorem ls_yRename {x y : Int32} (w : ls_CW (fl, bl, tl, t, p, hp, mo, A, M)) (hX : ls_RY (fl, bl, tl, t, p, hp, mo, A, M) v)
    (k : ∀ u', ls_RY (ls_c2 (fl, bl, tl, t, p, hp, mo, A, M) x y (ls_fRename (fl, bl, tl, t, p, hp, mo, A, M))).2 u' → post (ls_c2 (fl, bl, tl, t, p, hp, mo, A, M) x y (ls_fRename (fl, bl, tl, t, p, hp, mo, A, M))).1 u') : wpY_rename post v x y := by
  refine ls_RYe (Q := fun u => wpY_rename post u x y) hX ?_
  clear hX
  intro ge sz wo ca cb hA hM hX
  unfold wpY_rename
  refine ls_yPre2 w hX k (fun a b m0 ea ha eb hb k' => ?_)
  clear k
  subst ea eb
  have k := k'
  clear k'
  have w1 := w.1
  have a8 : a < 8 := by omega
  have b8 : b < 8 := by omega
  have wa := (w.2.1 (t + p + 1) (Nat.le_refl _) a a8).1
  have wb := (w.2.1 (t + p + 1) (Nat.le_refl _) b b8).1
  have ya := hA (t + p + 1) (Nat.le_refl _) (fun z => by omega) a a8
  refine ls_yCur ?_
  rw [nI_clamp (by omega), ya.2.1]
  refine ⟨vp_in_nI (by omega) (by decide), ?_⟩
  unfold ls_fRename at k
  dsimp only at k
  refine br_c (fun z => ?_) (fun z => ?_)
  · have p0 := (ls_sz_ge wa).mp z
    rw [if_neg p0] at k
    refine pk_eq a b (fun e => ?_) (fun ne => ?_) rfl rfl (by omega) (by omega)
    · rw [if_pos e] at k; exact k _ hX
    · rw [if_neg ne] at k
      refine ls_yFull (by omega) (by omega) (fun hl => ?_) (fun hl => ?_)
      · rw [if_neg (by omega)] at k
        refine br_t rfl ?_
        refine ls_yAdd w (by omega) hA hM (fun ge' sz' wo' ca' cb' hA' hM' hs' => ?_)
        refine ls_yCur (p := p + 1) ?_
        refine ls_yCur (p := p + 1) ?_
        have hna := hA' (t + p + 2) (Nat.le_refl _) (fun z => by omega) a a8
        have hnb := hA' (t + p + 2) (Nat.le_refl _) (fun z => by omega) b b8
        rw [ls_add_s] at hna hnb
        have ca2 : 8 * (t + (p + 1) + 1) + a < 208 := by omega
        have cb2 : 8 * (t + (p + 1) + 1) + b < 208 := by omega
        have s16 := wa.2.2.1
        refine ls_ySwap ca2 cb2 (by omega) ?_
        dsimp only
        rw [nI_clamp (by omega)]
        refine ⟨vp_in_nI ca2 (by decide), nm_e ?_⟩
        refine ls_yRaise (p := p + 1) cb2 hnb.1 wb.2.1 ?_
        refine k _ (ls_yFin (ls_yMod2 hA' hs' b8 a8 (fun j j1 j2 => pk_un j1) (fun j j1 j2 => ?_) (fun j j1 j2 => ls_sw_o j2 j1) (fun _ => ⟨pk_us, ?_, fun i hi => ?_⟩) ⟨?_, pk_us, fun i hi => absurd hi (Nat.not_lt_zero _)⟩) hM')
        · show upd (upd (upd sz' (8 * (t + p + 2) + a) (sz' (8 * (t + p + 2) + b))) (8 * (t + p + 2) + b) (sz' (8 * (t + p + 2) + a))) (8 * (t + p + 2) + a) (-1) j = sz' j
          rw [pk_un j2, pk_un j1, pk_un j2]
        · show upd (upd (upd sz' (8 * (t + p + 2) + a) (sz' (8 * (t + p + 2) + b))) (8 * (t + p + 2) + b) (sz' (8 * (t + p + 2) + a))) (8 * (t + p + 2) + a) (-1) (8 * (t + p + 2) + b) = _
          rw [pk_un (by omega), pk_us, hna.2.1, ls_sz_p p0]
          exact ls_sz1.symm
        · have hi' : i < (A (t + p + 1) a).2.2.1 := hi
          show ls_sw wo' (8 * (t + p + 2) + a) (8 * (t + p + 2) + b) 16 (16 * (8 * (t + p + 2) + b) + i) = (A (t + p + 1) a).2.2.2 i
          rw [ls_sw_b (by omega) (by omega) (by omega)]
          exact hna.2.2 i hi'
        · show upd ge' (8 * (t + p + 2) + b) _ (8 * (t + p + 2) + a) = _
          rw [pk_un (by omega)]
          exact hna.1
      · rw [if_pos hl] at k; exact br_f (by decide) (k _ hX)
  · have p0 : (A (t + p + 1) a).1 = 0 := Classical.byContradiction (fun y => z ((ls_sz_ge wa).mpr y))
    rw [if_pos p0] at k; exact k _ hX
theorem ls_yExch {x y : Int32} (w : ls_CW (fl, bl, tl, t, p, hp, mo, A, M)) (hX : ls_RY (fl, bl, tl, t, p, hp, mo, A, M) v)
    (k : ∀ u', ls_RY (ls_c2 (fl, bl, tl, t, p, hp, mo, A, M) x y (ls_fExch (fl, bl, tl, t, p, hp, mo, A, M))).2 u' → post (ls_c2 (fl, bl, tl, t, p, hp, mo, A, M) x y (ls_fExch (fl, bl, tl, t, p, hp, mo, A, M))).1 u') : wpY_exchange post v x y := by
  refine ls_RYe (Q := fun u => wpY_exchange post u x y) hX ?_
  clear hX
  intro ge sz wo ca cb hA hM hX
  unfold wpY_exchange
  refine ls_yPre2 w hX k (fun a b m0 ea ha eb hb k' => ?_)
  clear k
  subst ea eb
  have k := k'
  clear k'
  have w1 := w.1
  have a8 : a < 8 := by omega
  have b8 : b < 8 := by omega
  have wa := (w.2.1 (t + p + 1) (Nat.le_refl _) a a8).1
  have wb := (w.2.1 (t + p + 1) (Nat.le_refl _) b b8).1
  have ya := hA (t + p + 1) (Nat.le_refl _) (fun z => by omega) a a8
  have yb := hA (t + p + 1) (Nat.le_refl _) (fun z => by omega) b b8
  refine ls_yCur ?_
  rw [nI_clamp (by omega), ya.2.1]
  refine ⟨vp_in_nI (by omega) (by decide), ?_⟩
  unfold ls_fExch at k
  dsimp only at k
  refine br_c (fun z => ?_) (fun z => ?_)
  · have p0 := (ls_sz_lt wa).mp z
    rw [if_pos p0] at k; exact k _ hX
  · have p0 : (A (t + p + 1) a).1 ≠ 0 := fun y => z ((ls_sz_lt wa).mpr y)
    rw [if_neg p0] at k
    refine ls_yCur ?_
    rw [nI_clamp (by omega), yb.2.1]
    refine ⟨vp_in_nI (by omega) (by decide), ?_⟩
    refine br_c (fun z => ?_) (fun z => ?_)
    · have p1 := (ls_sz_ge wb).mp z
      rw [if_neg p1] at k
      refine pk_eq a b (fun e => ?_) (fun ne => ?_) rfl rfl (by omega) (by omega)
      · rw [if_pos e] at k; exact k _ hX
      · rw [if_neg ne] at k
        refine ls_yFull (by omega) (by omega) (fun hl => ?_) (fun hl => ?_)
        · rw [if_neg (by omega)] at k
          refine br_t rfl ?_
          refine ls_yAdd w (by omega) hA hM (fun ge' sz' wo' ca' cb' hA' hM' hs' => ?_)
          refine ls_yCur (p := p + 1) ?_
          refine ls_yCur (p := p + 1) ?_
          have hna := hA' (t + p + 2) (Nat.le_refl _) (fun z => by omega) a a8
          have hnb := hA' (t + p + 2) (Nat.le_refl _) (fun z => by omega) b b8
          rw [ls_add_s] at hna hnb
          have ca2 : 8 * (t + (p + 1) + 1) + a < 208 := by omega
          have cb2 : 8 * (t + (p + 1) + 1) + b < 208 := by omega
          have sa16 := wa.2.2.1
          have sb16 := wb.2.2.1
          refine ls_ySwap ca2 cb2 (by omega) ?_
          refine ls_yRaise (p := p + 1) ca2 hna.1 wa.2.1 ?_
          refine ls_yRaise (p := p + 1) (g := (A (t + p + 1) b).2.1) cb2 ?_ wb.2.1 ?_
          · show upd ge' (8 * (t + p + 2) + a) _ (8 * (t + p + 2) + b) = _
            rw [pk_un (by omega)]
            exact hnb.1
          · refine k _ (ls_yFin (ls_yMod2 hA' hs' a8 b8 (fun j j1 j2 => ?_) (fun j j1 j2 => ?_) (fun j j1 j2 => ls_sw_o j1 j2) (fun _ => ⟨?_, ?_, fun i hi => ?_⟩) ⟨pk_us, ?_, fun i hi => ?_⟩) hM')
            · show upd (upd ge' (8 * (t + p + 2) + a) _) (8 * (t + p + 2) + b) _ j = ge' j
              rw [pk_un j2, pk_un j1]
            · show upd (upd sz' (8 * (t + p + 2) + a) (sz' (8 * (t + p + 2) + b))) (8 * (t + p + 2) + b) (sz' (8 * (t + p + 2) + a)) j = sz' j
              rw [pk_un j2, pk_un j1]
            · show upd (upd ge' (8 * (t + p + 2) + a) _) (8 * (t + p + 2) + b) _ (8 * (t + p + 2) + a) = _
              rw [pk_un (by omega), pk_us]
              rfl
            · show upd (upd sz' (8 * (t + p + 2) + a) (sz' (8 * (t + p + 2) + b))) (8 * (t + p + 2) + b) (sz' (8 * (t + p + 2) + a)) (8 * (t + p + 2) + a) = _
              rw [pk_un (by omega), pk_us, hnb.2.1, ls_sz_p p1]
              exact ls_sz1.symm
            · have hi' : i < (A (t + p + 1) b).2.2.1 := hi
              show ls_sw wo' (8 * (t + p + 2) + a) (8 * (t + p + 2) + b) 16 (16 * (8 * (t + p + 2) + a) + i) = (A (t + p + 1) b).2.2.2 i
              rw [ls_sw_a (by omega)]
              exact hnb.2.2 i hi'
            · show upd (upd sz' (8 * (t + p + 2) + a) (sz' (8 * (t + p + 2) + b))) (8 * (t + p + 2) + b) (sz' (8 * (t + p + 2) + a)) (8 * (t + p + 2) + b) = _
              rw [pk_us, hna.2.1, ls_sz_p p0]
              exact ls_sz1.symm
            · have hi' : i < (A (t + p + 1) a).2.2.1 := hi
              show ls_sw wo' (8 * (t + p + 2) + a) (8 * (t + p + 2) + b) 16 (16 * (8 * (t + p + 2) + b) + i) = (A (t + p + 1) a).2.2.2 i
              rw [ls_sw_b (by omega) (by omega) (by omega)]
              exact hna.2.2 i hi'
        · rw [if_pos hl] at k; exact br_f (by decide) (k _ hX)
    · have p1 : (A (t + p + 1) b).1 = 0 := Classical.byContradiction (fun y => z ((ls_sz_ge wb).mpr y))
      rw [if_pos p1] at k; exact k _ hX
end
end
section
/-! ===== the reference: durability, getters ===== -/
section
variable {fl bl tl t p hp mo : Nat} {A : Nat → Nat → ls_FR} {M : Nat → Nat × Nat} {v : SY} {ge sz wo ca cb : Nat → Int32} {post : Int32 → SY → Prop}
theorem ls_yFlushN {a : Nat} (ha : a < 2 ^ 31) (hp24 : p ≤ 24) (m0 : mo ≠ 0) (hm : mo < 2) (k : post (nI (ls_mn a p)) ((nI fl), (nI bl), (nI tl), (nI (t + ls_mn a p)), (nI (p - ls_mn a p)), (nI hp), (nI mo), ge, sz, wo, ca, cb)) : wpY_flush post ((nI fl), (nI bl), (nI tl), (nI t), (nI p), (nI hp), (nI mo), ge, sz, wo, ca, cb) (nI a) := by
  unfold wpY_flush
  refine br_f (nI_ne0 (by omega) (by omega)) (br_t (nI_pos' ha) (pk_le p a (fun z => ?_) (fun z => ?_) rfl rfl (by omega) ha))
  · rw [show ls_mn a p = p from if_pos z] at k
    unfold wY_flush_32
    exact nm_r (nI_add t p) (nm_r (pk_sub (Nat.le_refl p)) k)
  · rw [show ls_mn a p = a from if_neg (by omega)] at k
    unfold wY_flush_32
    exact nm_r (nI_add t a) (nm_r (pk_sub (by omega)) k)
theorem ls_RYfl {a : Nat} (ha : a ≤ p) (hA : ls_YA ge sz wo (t + p) hp A) (hM : ls_YM ca cb (t + p) M) : ls_RY (ls_fl (fl, bl, tl, t, p, hp, mo, A, M) a).2 ((nI fl), (nI bl), (nI tl), (nI (t + a)), (nI (p - a)), (nI hp), (nI mo), ge, sz, wo, ca, cb) := by
  have e : t + a + (p - a) = t + p := by omega
  refine ⟨ge, sz, wo, ca, cb, rfl, ?_, ?_⟩
  · show ls_YA ge sz wo (t + a + (p - a)) hp A
    rw [e]; exact hA
  · show ls_YM ca cb (t + a + (p - a)) M
    rw [e]; exact hM
theorem ls_yFlush {x : Int32} (w : ls_CW (fl, bl, tl, t, p, hp, mo, A, M)) (hX : ls_RY (fl, bl, tl, t, p, hp, mo, A, M) v)
    (k : ∀ u', ls_RY (ls_cFlush (fl, bl, tl, t, p, hp, mo, A, M) x).2 u' → post (ls_cFlush (fl, bl, tl, t, p, hp, mo, A, M) x).1 u') : wpY_flush post v x := by
  refine ls_RYe (Q := fun u => wpY_flush post u x) hX ?_
  clear hX
  intro ge sz wo ca cb hA hM hX
  have w1 := w.1
  unfold ls_cFlush at k
  dsimp only at k
  by_cases m0 : mo = 0
  · rw [if_pos m0] at k
    unfold wpY_flush
    exact br_t (by rw [m0]; rfl) (k _ hX)
  · rw [if_neg m0] at k
    by_cases x0 : x < 0
    · rw [if_pos x0] at k
      unfold wpY_flush
      exact br_f (nI_ne0 (by omega) (by omega)) (br_f (Int32.not_le.mpr x0) (k _ hX))
    · rw [if_neg x0] at k
      obtain ⟨a, ha, rfl⟩ := nI_of x0
      rw [nI_clamp ha] at k
      exact ls_yFlushN ha (by omega) m0 (by omega) (k _ (ls_RYfl (ls_mn_le a p) hA hM))
theorem ls_yFs24 {f : Nat} (hM : ls_YM ca cb (t + p) M) (hM8 : ∀ i, i < t + p → (M i).1 < 8 ∧ (M i).2 < 8) (ht : t + p ≤ 24) (hf : f < 8) (k : ∀ u, wpY_flush post u (nI (ls_la M t f p)) → wpY_flush (fun r u => post r u) u (nI (ls_la M t f p)))
    (kd : wpY_flush post ((nI fl), (nI bl), (nI tl), (nI t), (nI p), (nI hp), (nI mo), ge, sz, wo, ca, cb) (nI (ls_la M t f p))) (ke : wpY_flush post ((nI fl), (nI bl), (nI tl), (nI t), (nI p), (nI hp), (nI mo), ge, sz, wo, ca, cb) (nI (ls_la M t f p)) → ∀ n, wY_fsync_24 post (nI f) (nI fl) (nI bl) (nI tl) (nI t) (nI p) (nI hp) (nI mo) ge sz wo ca cb (n + 1) (nI (ls_la M t f p)) (nI (p + 1))) :
    ∀ d j n, j + d = p → d < n → wY_fsync_24 post (nI f) (nI fl) (nI bl) (nI tl) (nI t) (nI p) (nI hp) (nI mo) ge sz wo ca cb n (nI (ls_la M t f j)) (nI (j + 1)) := by
  intro d
  induction d with
  | zero =>
    intro j n hj hn
    obtain ⟨n, rfl⟩ : ∃ n', n = n' + 1 := ⟨n - 1, by omega⟩
    obtain rfl : j = p := by omega
    exact ke kd n
  | succ d ih =>
    intro j n hj hn
    obtain ⟨n, rfl⟩ : ∃ n', n = n' + 1 := ⟨n - 1, by omega⟩
    have ihh := ih (j + 1) n (by omega) (by omega)
    have e1 : ls_la M t f (j + 1) = if f ≠ (M (t + j)).1 ∧ f ≠ (M (t + j)).2 then ls_la M t f j else j + 1 := rfl
    have hm := hM (t + j) (by omega)
    have h8 := hM8 (t + j) (by omega)
    have ei : nI t + nI (j + 1) - 1 = nI (t + j) := by
      rw [nI_add]
      exact pk_sub (a := t + (j + 1)) (b := 1) (by omega)
    refine br_f (nI_nlt (by omega) (by omega)) ?_
    rw [ei, nI_clamp (by omega), hm.1, hm.2]
    refine ⟨vp_in_nI (by omega) (by decide), pk_eq (M (t + j)).1 f (fun e => ?_) (fun e => ?_) rfl rfl (by omega) (by omega)⟩
    · rw [e1, if_neg (fun z => z.1 e.symm)] at ihh
      exact nm_r (nI_1 _) ihh
    · refine ⟨vp_in_nI (by omega) (by decide), pk_eq (M (t + j)).2 f (fun e' => ?_) (fun e' => ?_) rfl rfl (by omega) (by omega)⟩
      · rw [e1, if_neg (fun z => z.2 e'.symm)] at ihh
        exact nm_r (nI_1 _) ihh
      · rw [e1, if_pos ⟨fun z => e z.symm, fun z => e' z.symm⟩] at ihh
        exact nm_r (nI_1 _) ihh
theorem ls_yFsync {x : Int32} (w : ls_CW (fl, bl, tl, t, p, hp, mo, A, M)) (hX : ls_RY (fl, bl, tl, t, p, hp, mo, A, M) v)
    (k : ∀ u', ls_RY (ls_c1 (fl, bl, tl, t, p, hp, mo, A, M) x (ls_fFsync (fl, bl, tl, t, p, hp, mo, A, M))).2 u' → post (ls_c1 (fl, bl, tl, t, p, hp, mo, A, M) x (ls_fFsync (fl, bl, tl, t, p, hp, mo, A, M))).1 u') : wpY_fsync post v x := by
  refine ls_RYe (Q := fun u => wpY_fsync post u x) hX ?_
  clear hX
  intro ge sz wo ca cb hA hM hX
  have w1 := w.1
  unfold wpY_fsync
  refine ls_yPre1 w hX k (fun f m0 ef hf k' => ?_)
  clear k
  subst ef
  have hla := ls_la_le M t f p
  have fin : ∀ post2 : Int32 → SY → Prop, (∀ r u, post r u → post2 r u) → wpY_flush post2 ((nI fl), (nI bl), (nI tl), (nI t), (nI p), (nI hp), (nI mo), ge, sz, wo, ca, cb) (nI (ls_la M t f p)) := by
    intro post2 h2
    refine ls_yFlushN (by omega) (by omega) m0 (by omega) (h2 _ _ ?_)
    rw [ls_mn_id hla]
    exact k' _ (ls_RYfl hla hA hM)
  have main := ls_yFs24 (post := post) hM w.2.2.2 (by omega) (by omega) (fun u z => z) (fin post (fun _ _ z => z)) (fun _ n => br_t (nI_lt (by omega) (by omega)) (fin _ (fun r u z => by obtain ⟨fl, bl, tl, tc, pc, hp, mo, ge, sz, wo, ca, cb⟩ := u; exact z))) p 0 (p + 1) (by omega) (by omega)
  exact ⟨p + 1, main⟩
theorem ls_yCheck (w : ls_CW (fl, bl, tl, t, p, hp, mo, A, M)) (hX : ls_RY (fl, bl, tl, t, p, hp, mo, A, M) v)
    (k : ∀ u', ls_RY (ls_cCheck (fl, bl, tl, t, p, hp, mo, A, M)).2 u' → post (ls_cCheck (fl, bl, tl, t, p, hp, mo, A, M)).1 u') : wpY_checkpoint post v := by
  refine ls_RYe (Q := fun u => wpY_checkpoint post u) hX ?_
  clear hX
  intro ge sz wo ca cb hA hM hX
  have w1 := w.1
  have hs := ls_hs16 w
  unfold wpY_checkpoint
  unfold ls_cCheck at k
  dsimp only at k
  refine pk_eq mo 0 (fun m0 => ?_) (fun m0 => ?_) rfl rfl (by omega) (by decide)
  · rw [if_pos m0] at k; exact k _ hX
  · rw [if_neg m0] at k
    refine nm_r (nI_add t p) ?_
    refine ls_yCopy (a := 1) (b := 0) (by omega) (by omega) ?_
    dsimp only
    rw [nI_1]
    refine ls_yCopy (a := t + p + 1) (b := 1) (by omega) (by omega) ?_
    refine k _ ⟨_, _, _, _, _, rfl, fun s hs1 h0 => ?_, fun i hi => by omega⟩
    have s1 : s = 0 ∨ s = 1 := by omega
    rcases s1 with rfl | rfl
    · exact ls_YSo (hs 1 (by omega)) (ls_YSi (hs 1 (by omega)) (hA 1 (by omega) (fun z => by omega))) (by omega)
    · exact ls_YSi (hs (t + p + 1) (by omega)) (ls_YSo (hs (t + p + 1) (by omega)) (hA (t + p + 1) (by omega) (fun z => by omega)) (by omega))
theorem ls_yClean {x : Int32} {post : Int32 → Prop} (w : ls_CW (fl, bl, tl, t, p, hp, mo, A, M)) (hX : ls_RY (fl, bl, tl, t, p, hp, mo, A, M) v)
    (k : post (ls_cClean (fl, bl, tl, t, p, hp, mo, A, M) x)) : wpY_clean post v x := by
  refine ls_RYe (Q := fun u => wpY_clean post u x) hX ?_
  clear hX
  intro ge sz wo ca cb hA hM hX
  have w1 := w.1
  unfold wpY_clean
  unfold ls_cClean at k
  dsimp only at k
  refine pk_eq mo 0 (fun m0 => ?_) (fun m0 => ?_) rfl rfl (by omega) (by decide)
  · rw [if_pos m0] at k; exact k
  · rw [if_neg m0] at k
    by_cases x0 : x < 0
    · rw [if_pos x0] at k
      exact br_f (Int32.not_le.mpr x0) k
    · rw [if_neg x0] at k
      exact br_t (Int32.not_lt.mp x0) k
theorem ls_yCrash {x : Int32} (w : ls_CW (fl, bl, tl, t, p, hp, mo, A, M)) (hX : ls_RY (fl, bl, tl, t, p, hp, mo, A, M) v)
    (k : ∀ u', ls_RY (ls_cCrash (fl, bl, tl, t, p, hp, mo, A, M) x).2 u' → post (ls_cCrash (fl, bl, tl, t, p, hp, mo, A, M) x).1 u') : wpY_crash post v x := by
  refine ls_RYe (Q := fun u => wpY_crash post u x) hX ?_
  clear hX
  intro ge sz wo ca cb hA hM hX
  have w1 := w.1
  unfold wpY_crash
  unfold ls_cCrash at k
  dsimp only at k
  refine pk_eq mo 0 (fun m0 => ?_) (fun m0 => ?_) rfl rfl (by omega) (by decide)
  · rw [if_pos m0] at k; exact k _ hX
  · rw [if_neg m0] at k
    by_cases x0 : x < 0
    · rw [if_pos x0] at k
      exact br_f (Int32.not_le.mpr x0) (k _ hX)
    · rw [if_neg x0] at k
      refine br_t (Int32.not_lt.mp x0) ?_
      obtain ⟨a, ha, rfl⟩ := nI_of x0
      rw [nI_clamp ha] at k
      have hmn := ls_mn_le a p
      have kk := k ((nI fl), (nI bl), (nI tl), (nI (t + ls_mn a p)), (nI 0), (nI hp), (nI 0), ge, sz, wo, ca, cb) ⟨_, _, _, _, _, rfl, fun s h1 h2 => hA s (by omega) h2, fun i hi => hM i (by omega)⟩
      refine pk_le p a (fun z => ?_) (fun z => ?_) rfl rfl (by omega) ha
      · rw [show ls_mn a p = p from if_pos z] at kk
        unfold wY_crash_32
        exact nm_r (nI_add t p) kk
      · rw [show ls_mn a p = a from if_neg (by omega)] at kk
        unfold wY_crash_32
        exact nm_r (nI_add t a) kk
theorem ls_yCIC (w : ls_CW (fl, bl, tl, t, p, hp, mo, A, M)) (hX : ls_RY (fl, bl, tl, t, p, hp, mo, A, M) v)
    (k : ∀ u', ls_RY (ls_cCIC (fl, bl, tl, t, p, hp, mo, A, M)).2 u' → post (ls_cCIC (fl, bl, tl, t, p, hp, mo, A, M)).1 u') : wpY_crashInCheckpoint post v := by
  refine ls_RYe (Q := fun u => wpY_crashInCheckpoint post u) hX ?_
  clear hX
  intro ge sz wo ca cb hA hM hX
  have w1 := w.1
  unfold wpY_crashInCheckpoint
  unfold ls_cCIC at k
  dsimp only at k
  refine pk_eq mo 0 (fun m0 => ?_) (fun m0 => ?_) rfl rfl (by omega) (by decide)
  · rw [if_pos m0] at k; exact k _ hX
  · rw [if_neg m0] at k
    refine nm_r (nI_add t p) ?_
    refine k ((nI fl), (nI bl), (nI tl), (nI (t + p)), (nI 0), (nI 0), (nI 0), ge, sz, wo, ca, cb) ⟨_, _, _, _, _, rfl, fun s h1 h2 => ?_, fun i hi => hM i (by omega)⟩
    have s0 : s ≠ 0 := fun z => h2 z rfl
    have hh := hA s (by omega) (fun z => absurd z s0)
    have e : ls_cp2 A ls_E0 (A 1) s = A s := by
      unfold ls_cp2
      rw [if_neg s0]
      by_cases y : s = 1
      · rw [if_pos y, y]
      · rw [if_neg y]
    rw [e]
    exact hh
theorem ls_yMount {x y : Int32} (w : ls_CW (fl, bl, tl, t, p, hp, mo, A, M)) (hX : ls_RY (fl, bl, tl, t, p, hp, mo, A, M) v)
    (k : ∀ u', ls_RY (ls_cMount (fl, bl, tl, t, p, hp, mo, A, M) x y).2 u' → post (ls_cMount (fl, bl, tl, t, p, hp, mo, A, M) x y).1 u') : wpY_mount post v x y := by
  refine ls_RYe (Q := fun u => wpY_mount post u x y) hX ?_
  clear hX
  intro ge sz wo ca cb hA hM hX
  have w1 := w.1
  have hs := ls_hs16 w
  unfold wpY_mount
  unfold ls_cMount at k
  dsimp only at k
  refine pk_eq mo 0 (fun m0 => ?_) (fun m0 => ?_) rfl rfl (by omega) (by decide)
  · rw [if_pos m0] at k
    have p0 : p = 0 := w1.2.2.2.2.2.2.2 m0
    refine br_c (fun x0 => ?_) (fun x0 => ?_)
    · rw [if_pos x0] at k
      subst x0
      unfold wY_mount_22
      refine br_f (by decide) ?_
      unfold wY_mount_37
      by_cases y0 : y < 0
      · rw [if_pos y0] at k
        exact br_f (Int32.not_le.mpr y0) (k _ hX)
      · rw [if_neg y0] at k
        obtain ⟨a, ha, rfl⟩ := nI_of y0
        rw [nI_clamp ha] at k
        have hm := ls_mn_le a t
        have main : wY_mount_81 post (nI (ls_mn a t)) (nI fl) (nI bl) (nI tl) (nI t) (nI p) (nI hp) (nI mo) ge sz wo ca cb := by
          unfold wY_mount_81
          refine pk_le (ls_mn a t) 0 (fun z => ?_) (fun z => ?_) rfl rfl (by omega) (by decide)
          · rw [if_pos (by omega)] at k
            rw [show ls_mn a t = 0 from by omega]
            unfold wY_mount_105
            exact k _ ⟨_, _, _, _, _, rfl, fun s h1 h2 => hA s (by omega) h2, fun i hi => hM i (by omega)⟩
          · rw [if_neg (by omega)] at k
            refine ls_yCopy (a := 1) (b := 0) (by omega) (by omega) ?_
            dsimp only
            rw [nI_1]
            refine ls_yCopy (a := ls_mn a t + 1) (b := 1) (by omega) (by omega) ?_
            unfold wY_mount_105
            refine k _ ⟨_, _, _, _, _, rfl, fun s hs1 h0 => ?_, fun i hi => by omega⟩
            have s1 : s = 0 ∨ s = 1 := by omega
            rcases s1 with rfl | rfl
            · exact ls_YSo (hs 1 (by omega)) (ls_YSi (hs 1 (by omega)) (hA 1 (by omega) (fun z => by omega))) (by omega)
            · exact ls_YSi (hs (ls_mn a t + 1) (by omega)) (ls_YSo (hs (ls_mn a t + 1) (by omega)) (hA (ls_mn a t + 1) (by omega) (fun z => by omega)) (by omega))
        refine br_t (Int32.not_lt.mp y0) (br_f (by decide) (pk_le t a (fun z => ?_) (fun z => ?_) rfl rfl (by omega) ha))
        · rw [show ls_mn a t = t from if_pos z] at main; exact main
        · rw [show ls_mn a t = a from if_neg (by omega)] at main; exact main
    · rw [if_neg x0] at k
      refine br_c (fun x1 => ?_) (fun x1 => ?_)
      · rw [if_pos x1] at k
        unfold wY_mount_22
        refine br_t x1 (pk_eq hp 0 (fun z => ?_) (fun z => ?_) rfl rfl (by omega) (by decide))
        · rw [if_pos z] at k; exact k _ hX
        · rw [if_neg z] at k
          unfold wY_mount_37
          by_cases y0 : y < 0
          · rw [if_pos y0] at k
            exact br_f (Int32.not_le.mpr y0) (k _ hX)
          · rw [if_neg y0] at k
            refine br_t (Int32.not_lt.mp y0) (br_t x1 ?_)
            refine ls_yCopy (a := 0) (b := 1) (by omega) (by omega) ?_
            unfold wY_mount_105
            refine k _ ⟨_, _, _, _, _, rfl, fun s hs1 h0 => ?_, fun i hi => by omega⟩
            have s1 : s = 1 := by
              rcases (by omega : s = 0 ∨ s = 1) with y | y
              · exact absurd rfl (h0 y)
              · exact y
            subst s1
            exact ls_YSi (hs 0 (by omega)) (hA 0 (by omega) (fun _ => z))
      · rw [if_neg x1] at k; exact k _ hX
  · rw [if_neg m0] at k; exact k _ hX
end
end
section
/-! ===== the reference's getters ===== -/
section
variable {fl bl tl t p hp mo : Nat} {A : Nat → Nat → ls_FR} {M : Nat → Nat × Nat} {v : SY} {ge sz wo ca cb : Nat → Int32} {post : Int32 → Prop}
theorem ls_yIsM (w : ls_CW (fl, bl, tl, t, p, hp, mo, A, M)) (hX : ls_RY (fl, bl, tl, t, p, hp, mo, A, M) v) (k : post (nI mo)) : wpY_isMounted post v := by
  refine ls_RYe (Q := fun u => wpY_isMounted post u) hX ?_
  intro ge sz wo ca cb hA hM hX
  exact ⟨ls_bn w.1.2.2.2.2.2.2.1, k⟩
theorem ls_yTL (hX : ls_RY (fl, bl, tl, t, p, hp, mo, A, M) v) (k : post (nI t)) : wpY_tailLength post v := by
  refine ls_RYe (Q := fun u => wpY_tailLength post u) hX ?_
  intro ge sz wo ca cb hA hM hX
  exact k
theorem ls_yPL (hX : ls_RY (fl, bl, tl, t, p, hp, mo, A, M) v) (k : post (nI p)) : wpY_pendingLength post v := by
  refine ls_RYe (Q := fun u => wpY_pendingLength post u) hX ?_
  intro ge sz wo ca cb hA hM hX
  exact k
theorem ls_yHP (w : ls_CW (fl, bl, tl, t, p, hp, mo, A, M)) (hX : ls_RY (fl, bl, tl, t, p, hp, mo, A, M) v) (k : post (nI hp)) : wpY_hasPrevious post v := by
  refine ls_RYe (Q := fun u => wpY_hasPrevious post u) hX ?_
  intro ge sz wo ca cb hA hM hX
  exact ⟨ls_bn w.1.2.2.2.2.2.1, k⟩
theorem ls_yBadV {x : Int32} (hp2 : hp < 2) (k : post (ls_gv (ls_vw (fl, bl, tl, t, p, hp, mo, A, M) x) 1 (fun _ => 0))) : wpY_badView post ((nI fl), (nI bl), (nI tl), (nI t), (nI p), (nI hp), (nI mo), ge, sz, wo, ca, cb) x := by
  unfold wpY_badView
  unfold ls_vw at k
  dsimp only at k
  refine br_c (fun e => ?_) (fun e => ?_)
  · rw [if_pos e] at k
    refine pk_eq hp 0 (fun z => ?_) (fun z => ?_) rfl rfl (by omega) (by decide)
    · rw [if_pos z] at k; exact k
    · rw [if_neg z] at k; exact k
  · rw [if_neg e] at k
    refine br_c (fun z => ?_) (fun z => ?_)
    · rw [if_pos z] at k; exact k
    · rw [if_neg z] at k
      rw [nI_add]
      refine br_c (fun y => ?_) (fun y => ?_)
      · rw [if_pos y] at k; exact k
      · rw [if_neg y] at k; exact k
theorem ls_yIx {x : Int32} {s : Nat} (ht : t + p ≤ 24) (hs : ls_vw (fl, bl, tl, t, p, hp, mo, A, M) x = some s) : x + 1 = nI s := by
  rcases ls_vwN ht hs with ⟨rfl, rfl, c⟩ | ⟨a, rfl, b, rfl⟩
  · decide
  · exact nI_1 a
theorem ls_ySizeOf {x y : Int32} (w : ls_CW (fl, bl, tl, t, p, hp, mo, A, M)) (hX : ls_RY (fl, bl, tl, t, p, hp, mo, A, M) v)
    (k : post (ls_gv (ls_vw (fl, bl, tl, t, p, hp, mo, A, M) x) (-13) (fun s => ls_cSize (fl, bl, tl, t, p, hp, mo, A, M) s y))) : wpY_sizeOf post v x y := by
  refine ls_RYe (Q := fun u => wpY_sizeOf post u x y) hX ?_
  intro ge sz wo ca cb hA hM hX
  have w1 := w.1
  unfold wpY_sizeOf
  refine ls_yBadV (A := A) (M := M) (by omega) ?_
  cases hs : ls_vw (fl, bl, tl, t, p, hp, mo, A, M) x with
  | none => rw [hs] at k; exact br_f (show ¬ (1 : Int32) = 0 by decide) k
  | some s =>
    rw [hs] at k
    have hs1 := ls_vw_le (by omega) hs
    refine br_t rfl ?_
    have k : post (if y < 0 ∨ nI fl ≤ y then -2 else if (A s y.toNatClampNeg).1 = 0 then -3 else nI (A s y.toNatClampNeg).2.2.1) := k
    refine ls_yBad w1.2.1 (fun b => ?_) (fun f e hf => ?_)
    · rw [if_pos b] at k; exact br_f (show ¬ (1 : Int32) = 0 by decide) k
    · subst e
      rw [if_neg (ls_nbad hf w1.2.1), nI_clamp (by omega)] at k
      have hwf := (w.2.1 s hs1.1 f (by omega)).1
      have hy := hA s hs1.1 hs1.2 f (by omega)
      refine br_t rfl ?_
      rw [ls_yIx (by omega) hs, ls_8, nI_add, nI_clamp (by omega), hy.2.1]
      refine ⟨vp_in_nI (by omega) (by decide), nm_e (br_c (fun z => ?_) (fun z => ?_))⟩
      · have p0 := (ls_sz_ge hwf).mp z
        rw [if_neg p0] at k
        rw [ls_sz_p p0]
        exact k
      · have p0 : (A s f).1 = 0 := Classical.byContradiction (fun y => z ((ls_sz_ge hwf).mpr y))
        rw [if_pos p0] at k; exact k
theorem ls_yGenOf {x y : Int32} (w : ls_CW (fl, bl, tl, t, p, hp, mo, A, M)) (hX : ls_RY (fl, bl, tl, t, p, hp, mo, A, M) v)
    (k : post (ls_gv (ls_vw (fl, bl, tl, t, p, hp, mo, A, M) x) (-13) (fun s => ls_cGen (fl, bl, tl, t, p, hp, mo, A, M) s y))) : wpY_generationOf post v x y := by
  refine ls_RYe (Q := fun u => wpY_generationOf post u x y) hX ?_
  intro ge sz wo ca cb hA hM hX
  have w1 := w.1
  unfold wpY_generationOf
  refine ls_yBadV (A := A) (M := M) (by omega) ?_
  cases hs : ls_vw (fl, bl, tl, t, p, hp, mo, A, M) x with
  | none => rw [hs] at k; exact br_f (show ¬ (1 : Int32) = 0 by decide) k
  | some s =>
    rw [hs] at k
    have hs1 := ls_vw_le (by omega) hs
    refine br_t rfl ?_
    have k : post (if y < 0 ∨ nI fl ≤ y then -2 else nI (A s y.toNatClampNeg).2.1) := k
    refine ls_yBad w1.2.1 (fun b => ?_) (fun f e hf => ?_)
    · rw [if_pos b] at k; exact br_f (show ¬ (1 : Int32) = 0 by decide) k
    · subst e
      rw [if_neg (ls_nbad hf w1.2.1), nI_clamp (by omega)] at k
      have hy := hA s hs1.1 hs1.2 f (by omega)
      refine br_t rfl ?_
      rw [ls_yIx (by omega) hs, ls_8, nI_add, nI_clamp (by omega), hy.1]
      exact ⟨vp_in_nI (by omega) (by decide), k⟩
theorem ls_yWordAt {x y q : Int32} (w : ls_CW (fl, bl, tl, t, p, hp, mo, A, M)) (hX : ls_RY (fl, bl, tl, t, p, hp, mo, A, M) v)
    (k : post (ls_gv (ls_vw (fl, bl, tl, t, p, hp, mo, A, M) x) 0 (fun s => ls_cWord (fl, bl, tl, t, p, hp, mo, A, M) s y q))) : wpY_wordAt post v x y q := by
  refine ls_RYe (Q := fun u => wpY_wordAt post u x y q) hX ?_
  intro ge sz wo ca cb hA hM hX
  have w1 := w.1
  unfold wpY_wordAt
  refine ls_yBadV (A := A) (M := M) (by omega) ?_
  cases hs : ls_vw (fl, bl, tl, t, p, hp, mo, A, M) x with
  | none => rw [hs] at k; exact br_f (show ¬ (1 : Int32) = 0 by decide) k
  | some s =>
    rw [hs] at k
    have hs1 := ls_vw_le (by omega) hs
    refine br_t rfl ?_
    have k : post (if y < 0 ∨ nI fl ≤ y then 0 else if (A s y.toNatClampNeg).1 = 0 then 0 else if q < 0 then 0 else if q < nI (A s y.toNatClampNeg).2.2.1 then (A s y.toNatClampNeg).2.2.2 q.toNatClampNeg else 0) := k
    refine ls_yBad w1.2.1 (fun b => ?_) (fun f e hf => ?_)
    · rw [if_pos b] at k; exact br_f (show ¬ (1 : Int32) = 0 by decide) k
    · subst e
      rw [if_neg (ls_nbad hf w1.2.1), nI_clamp (by omega)] at k
      have hwf := (w.2.1 s hs1.1 f (by omega)).1
      have h16 := hwf.2.2.1
      have hy := hA s hs1.1 hs1.2 f (by omega)
      refine br_t rfl ?_
      refine nm_r (e' := nI (8 * s + f)) (by rw [ls_yIx (by omega) hs, ls_8, nI_add]) ?_
      refine br_c (fun q0 => ?_) (fun q0 => ?_)
      · rw [if_pos q0] at k
        have : (if (A s f).1 = 0 then (0 : Int32) else 0) = 0 := by split <;> rfl
        rw [this] at k
        exact k
      · rw [if_neg q0] at k
        rw [nI_clamp (by omega), hy.2.1]
        refine ⟨vp_in_nI (by omega) (by decide), ?_⟩
        obtain ⟨a, ha, rfl⟩ := nI_of q0
        rw [nI_clamp ha] at k
        by_cases p0 : (A s f).1 = 0
        · rw [if_pos p0] at k
          have : ls_sz (A s f) = -1 := if_pos p0
          rw [this]
          refine br_f (fun z => ?_) k
          have := Int32.lt_trans z (show (-1 : Int32) < 0 by decide)
          exact q0 this
        · rw [if_neg p0] at k
          rw [ls_sz_p p0]
          refine br_c (fun z => ?_) (fun z => ?_)
          · rw [if_pos z] at k
            have z2 := (nI_ltI ha (by omega)).mp z
            rw [ls_16c, nI_clamp (by omega), hy.2.2 a z2]
            exact ⟨vp_in_nI (by omega) (by decide), k⟩
          · rw [if_neg z] at k; exact k
theorem ls_yUsedB {x : Int32} (w : ls_CW (fl, bl, tl, t, p, hp, mo, A, M)) (hX : ls_RY (fl, bl, tl, t, p, hp, mo, A, M) v)
    (k : post (ls_gv (ls_vw (fl, bl, tl, t, p, hp, mo, A, M) x) (-13) (fun s => nI (ls_used (A s))))) : wpY_usedBlocks post v x := by
  refine ls_RYe (Q := fun u => wpY_usedBlocks post u x) hX ?_
  intro ge sz wo ca cb hA hM hX
  have w1 := w.1
  unfold wpY_usedBlocks
  refine ls_yBadV (A := A) (M := M) (by omega) ?_
  cases hs : ls_vw (fl, bl, tl, t, p, hp, mo, A, M) x with
  | none => rw [hs] at k; exact br_f (show ¬ (1 : Int32) = 0 by decide) k
  | some s =>
    rw [hs] at k
    have hs1 := ls_vw_le (by omega) hs
    refine br_t rfl ?_
    rw [ls_yIx (by omega) hs]
    exact ls_yUsed (C := A s) w1.2.1 (by omega) (fun g hg => (w.2.1 s hs1.1 g hg).1) (fun g hg g8 => (w.2.1 s hs1.1 g g8).2 hg) (fun g hg e => absurd e (ls_nm1 (by omega))) (fun g hg _ => (hA s hs1.1 hs1.2 g (by omega)).2.1) k
theorem ls_yDg81 {J : Int32 → Int32 → Prop} {f c s : Nat} {x1 h0 : Int32} {wd : Nat → Int32} (hc : c < 208) (hs : s ≤ 16) (hw : ∀ y, y < s → wo (16 * c + y) = wd y) (k : J (ls_dgW wd s h0) (nI (f + 1))) :
    ∀ d y n, y + d = s → d < n → wY_digest_81 post J x1 (nI f) (nI c) (nI s) (nI fl) (nI bl) (nI tl) (nI t) (nI p) (nI hp) (nI mo) ge sz wo ca cb n (ls_dgW wd y h0) (nI y) := by
  intro d
  induction d with
  | zero =>
    intro y n hy hn
    obtain ⟨n, rfl⟩ : ∃ n', n = n' + 1 := ⟨n - 1, by omega⟩
    obtain rfl : y = s := by omega
    exact br_t (nI_le (Nat.le_refl y) (by omega)) (nm_r (nI_1 f) k)
  | succ d ih =>
    intro y n hy hn
    obtain ⟨n, rfl⟩ : ∃ n', n = n' + 1 := ⟨n - 1, by omega⟩
    refine br_f (nI_ge (by omega) (by omega)) ?_
    rw [ls_16c, nI_clamp (by omega), hw y (by omega)]
    exact ⟨vp_in_nI (by omega) (by decide), nm_e (nm_r (nI_1 y) (ih (y + 1) n (by omega) (by omega)))⟩
theorem ls_yDg15 {x : Int32} {s : Nat} (w : ls_CW (fl, bl, tl, t, p, hp, mo, A, M)) (hA : ls_YA ge sz wo (t + p) hp A) (hs : s ≤ t + p + 1) (hs0 : s = 0 → hp ≠ 0) (hx : x + 1 = nI s) (k : post (ls_dg (A s) fl)) :
    ∀ d f n, f + d = fl → d < n → wY_digest_15 post x (nI fl) (nI bl) (nI tl) (nI t) (nI p) (nI hp) (nI mo) ge sz wo ca cb n (ls_dg (A s) f) (nI f) := by
  have w1 := w.1
  intro d
  induction d with
  | zero =>
    intro f n hf hn
    obtain ⟨n, rfl⟩ : ∃ n', n = n' + 1 := ⟨n - 1, by omega⟩
    obtain rfl : f = fl := by omega
    exact br_t (nI_le (Nat.le_refl f) (by omega)) k
  | succ d ih =>
    intro f n hf hn
    obtain ⟨n, rfl⟩ : ∃ n', n = n' + 1 := ⟨n - 1, by omega⟩
    have ihh := ih (f + 1) n (by omega) (by omega)
    have e1 : ls_dg (A s) (f + 1) = ls_dg1 (A s f) (ls_dg (A s) f) := rfl
    rw [e1] at ihh
    unfold ls_dg1 at ihh
    have hwf := (w.2.1 s hs f (by omega)).1
    have h16 := hwf.2.2.1
    have hy := hA s hs hs0 f (by omega)
    refine br_f (nI_ge (by omega) (by omega)) (nm_r (e' := nI (8 * s + f)) (by rw [hx, ls_8, nI_add]) ?_)
    rw [nI_clamp (by omega), hy.1, hy.2.1]
    refine ⟨vp_in_nI (by omega) (by decide), nm_e ⟨vp_in_nI (by omega) (by decide), nm_e (br_c (fun z => ?_) (fun z => ?_))⟩⟩
    · have p0 := (ls_sz_ge hwf).mp z
      rw [if_neg p0] at ihh
      rw [ls_sz_p p0]
      refine nm_e ⟨(A s f).2.2.1 + 1, ?_⟩
      exact ls_yDg81 (wd := (A s f).2.2.2) (by omega) h16 hy.2.2 ihh (A s f).2.2.1 0 _ (by omega) (by omega)
    · have p0 : (A s f).1 = 0 := Classical.byContradiction (fun y => z ((ls_sz_ge hwf).mpr y))
      rw [if_pos p0] at ihh
      exact nm_e (nm_r (nI_1 f) ihh)
theorem ls_yDigest {x : Int32} (w : ls_CW (fl, bl, tl, t, p, hp, mo, A, M)) (hX : ls_RY (fl, bl, tl, t, p, hp, mo, A, M) v)
    (k : post (ls_gv (ls_vw (fl, bl, tl, t, p, hp, mo, A, M) x) 0 (fun s => ls_dg (A s) fl))) : wpY_digest post v x := by
  refine ls_RYe (Q := fun u => wpY_digest post u x) hX ?_
  intro ge sz wo ca cb hA hM hX
  have w1 := w.1
  unfold wpY_digest
  refine ls_yBadV (A := A) (M := M) (by omega) ?_
  cases hs : ls_vw (fl, bl, tl, t, p, hp, mo, A, M) x with
  | none => rw [hs] at k; exact br_f (show ¬ (1 : Int32) = 0 by decide) k
  | some s =>
    rw [hs] at k
    have hs1 := ls_vw_le (by omega) hs
    refine br_t rfl ?_
    exact ⟨fl + 1, ls_yDg15 w hA hs1.1 hs1.2 (ls_yIx (by omega) hs) k fl 0 (fl + 1) (by omega) (by omega)⟩
end
end
section
/-! ===== operations keep the abstract state well formed ===== -/
section
variable {fl bl tl t p hp mo : Nat} {A : Nat → Nat → ls_FR} {M : Nat → Nat × Nat}
theorem ls_CWc1 {x : Int32} {F : Nat → Int32 × ls_C} (w : ls_CW (fl, bl, tl, t, p, hp, mo, A, M)) (h : ∀ f, mo ≠ 0 → f < fl → ls_CW (F f).2) : ls_CW (ls_c1 (fl, bl, tl, t, p, hp, mo, A, M) x F).2 := by
  unfold ls_c1
  dsimp only
  by_cases m0 : mo = 0
  · rw [if_pos m0]; exact w
  · rw [if_neg m0]
    by_cases b : x < 0 ∨ nI fl ≤ x
    · rw [if_pos b]; exact w
    · rw [if_neg b]
      obtain ⟨j, hj, rfl⟩ := nI_of (fun z => b (Or.inl z))
      rw [nI_clamp hj]
      refine h j m0 ?_
      have w1 := w.1
      apply Classical.byContradiction
      intro z
      exact b (Or.inr (nI_le (by omega) hj))
theorem ls_CWc2 {x y : Int32} {F : Nat → Nat → Int32 × ls_C} (w : ls_CW (fl, bl, tl, t, p, hp, mo, A, M)) (h : ∀ f g, mo ≠ 0 → f < fl → g < fl → ls_CW (F f g).2) : ls_CW (ls_c2 (fl, bl, tl, t, p, hp, mo, A, M) x y F).2 := by
  unfold ls_c2
  dsimp only
  have good : ∀ {x : Int32}, ¬ (x < 0 ∨ nI fl ≤ x) → x.toNatClampNeg < fl := by
    intro x b
    obtain ⟨j, hj, rfl⟩ := nI_of (fun z => b (Or.inl z))
    rw [nI_clamp hj]
    apply Classical.byContradiction
    intro z
    exact b (Or.inr (nI_le (by omega) hj))
  by_cases m0 : mo = 0
  · rw [if_pos m0]; exact w
  · rw [if_neg m0]
    by_cases b : x < 0 ∨ nI fl ≤ x
    · rw [if_pos b]; exact w
    · rw [if_neg b]
      by_cases b2 : y < 0 ∨ nI fl ≤ y
      · rw [if_pos b2]; exact w
      · rw [if_neg b2]
        exact h _ _ m0 (good b) (good b2)
theorem ls_CWcreate (w : ls_CW (fl, bl, tl, t, p, hp, mo, A, M)) {f : Nat} (m0 : mo ≠ 0) (hf : f < fl) : ls_CW (ls_fCreate (fl, bl, tl, t, p, hp, mo, A, M) f).2 := by
  have w1 := w.1
  have f8 : f < 8 := by omega
  unfold ls_fCreate
  dsimp only
  split
  · split
    · exact w
    · refine ls_CWop w m0 (by omega) hf hf ls_wC ls_wC ?_ (by omega) (by omega)
      rw [ls_used_11 rfl]
      have a := ls_used_set (C := A (t + p + 1)) (x := ls_rC (A (t + p + 1) f)) f8
      have b := w.2.2.1 (t + p + 1) (Nat.le_refl _)
      have c : ls_bf (ls_rC (A (t + p + 1) f)).2.2.1 = 0 := show ls_bf 0 = 0 from rfl
      omega
  · exact w
theorem ls_CWremove (w : ls_CW (fl, bl, tl, t, p, hp, mo, A, M)) {f : Nat} (m0 : mo ≠ 0) (hf : f < fl) : ls_CW (ls_fRemove (fl, bl, tl, t, p, hp, mo, A, M) f).2 := by
  have w1 := w.1
  have f8 : f < 8 := by omega
  unfold ls_fRemove
  dsimp only
  split
  · exact w
  · split
    · exact w
    · have hwf := (w.2.1 (t + p + 1) (Nat.le_refl _) f f8).1
      refine ls_CWop w m0 (by omega) hf hf (ls_wD hwf) (ls_wD hwf) ?_ (by omega) (by omega)
      rw [ls_used_11 rfl]
      have a := ls_used_set (C := A (t + p + 1)) (x := ls_rD (A (t + p + 1) f)) f8
      have b := w.2.2.1 (t + p + 1) (Nat.le_refl _)
      have c : ls_bf (ls_rD (A (t + p + 1) f)).2.2.1 = 0 := show ls_bf 0 = 0 from rfl
      omega
theorem ls_CWwrite (w : ls_CW (fl, bl, tl, t, p, hp, mo, A, M)) {f : Nat} {y v : Int32} (m0 : mo ≠ 0) (hf : f < fl) : ls_CW (ls_fWrite (fl, bl, tl, t, p, hp, mo, A, M) y v f).2 := by
  have w1 := w.1
  have f8 : f < 8 := by omega
  have hwf := (w.2.1 (t + p + 1) (Nat.le_refl _) f f8).1
  unfold ls_fWrite
  dsimp only
  split
  · exact w
  · by_cases b : y < 0 ∨ 16 ≤ y
    · rw [if_pos b]; exact w
    · rw [if_neg b]
      have hy : y.toNatClampNeg < 16 := by
        obtain ⟨j, hj, rfl⟩ := nI_of (fun z => b (Or.inl z))
        rw [nI_clamp hj]
        apply Classical.byContradiction
        intro z
        exact b (Or.inr (nI_le (a := 16) (by omega) hj))
      split
      · exact w
      · split
        · exact w
        · refine ls_CWop w m0 (by omega) hf hf (ls_wW hwf hy) (ls_wW hwf hy) ?_ (by omega) (by omega)
          rw [ls_used_11 rfl]
          omega
theorem ls_CWtrunc (w : ls_CW (fl, bl, tl, t, p, hp, mo, A, M)) {f : Nat} {y : Int32} (m0 : mo ≠ 0) (hf : f < fl) : ls_CW (ls_fTrunc (fl, bl, tl, t, p, hp, mo, A, M) y f).2 := by
  have w1 := w.1
  have f8 : f < 8 := by omega
  have hwf := (w.2.1 (t + p + 1) (Nat.le_refl _) f f8).1
  unfold ls_fTrunc
  dsimp only
  split
  · exact w
  · by_cases b : y < 0 ∨ ¬ y ≤ 16
    · rw [if_pos b]; exact w
    · rw [if_neg b]
      have hy : y.toNatClampNeg ≤ 16 := by
        obtain ⟨j, hj, rfl⟩ := nI_of (fun z => b (Or.inl z))
        rw [nI_clamp hj]
        apply Classical.byContradiction
        intro z
        exact b (Or.inr (nI_ge (a := 16) (by omega) hj))
      split
      · exact w
      · split
        · exact w
        · refine ls_CWop w m0 (by omega) hf hf (ls_wT hwf hy) (ls_wT hwf hy) ?_ (by omega) (by omega)
          rw [ls_used_11 rfl]
          omega
theorem ls_CWrename (w : ls_CW (fl, bl, tl, t, p, hp, mo, A, M)) {a b : Nat} (m0 : mo ≠ 0) (ha : a < fl) (hb : b < fl) : ls_CW (ls_fRename (fl, bl, tl, t, p, hp, mo, A, M) a b).2 := by
  have w1 := w.1
  have a8 : a < 8 := by omega
  have b8 : b < 8 := by omega
  have wa := (w.2.1 (t + p + 1) (Nat.le_refl _) a a8).1
  have wb := (w.2.1 (t + p + 1) (Nat.le_refl _) b b8).1
  unfold ls_fRename
  dsimp only
  split
  · exact w
  · split
    · exact w
    · split
      · exact w
      · rename_i ne _
        refine ls_CWop w m0 (by omega) hb ha (ls_wM wa) (ls_wD wa) ?_ (by omega) (by omega)
        have c1 := ls_used_set (C := A (t + p + 1)) (x := ls_rM (A (t + p + 1) b) (A (t + p + 1) a)) b8
        have c2 := ls_used_set (C := ls_set (A (t + p + 1)) b (ls_rM (A (t + p + 1) b) (A (t + p + 1) a))) (x := ls_rD (A (t + p + 1) a)) a8
        rw [ls_set_n ne] at c2
        have c3 := w.2.2.1 (t + p + 1) (Nat.le_refl _)
        have e1 : ls_bf (ls_rM (A (t + p + 1) b) (A (t + p + 1) a)).2.2.1 = ls_bf (A (t + p + 1) a).2.2.1 := rfl
        have e2 : ls_bf (ls_rD (A (t + p + 1) a)).2.2.1 = 0 := show ls_bf 0 = 0 from rfl
        omega
theorem ls_CWexch (w : ls_CW (fl, bl, tl, t, p, hp, mo, A, M)) {a b : Nat} (m0 : mo ≠ 0) (ha : a < fl) (hb : b < fl) : ls_CW (ls_fExch (fl, bl, tl, t, p, hp, mo, A, M) a b).2 := by
  have w1 := w.1
  have a8 : a < 8 := by omega
  have b8 : b < 8 := by omega
  have wa := (w.2.1 (t + p + 1) (Nat.le_refl _) a a8).1
  have wb := (w.2.1 (t + p + 1) (Nat.le_refl _) b b8).1
  unfold ls_fExch
  dsimp only
  split
  · exact w
  · split
    · exact w
    · split
      · exact w
      · split
        · exact w
        · rename_i ne _
          refine ls_CWop w m0 (by omega) ha hb (ls_wM wb) (ls_wM wa) ?_ (by omega) (by omega)
          have c1 := ls_used_set (C := A (t + p + 1)) (x := ls_rM (A (t + p + 1) a) (A (t + p + 1) b)) a8
          have c2 := ls_used_set (C := ls_set (A (t + p + 1)) a (ls_rM (A (t + p + 1) a) (A (t + p + 1) b))) (x := ls_rM (A (t + p + 1) b) (A (t + p + 1) a)) b8
          rw [ls_set_n (fun z => ne z.symm)] at c2
          have c3 := w.2.2.1 (t + p + 1) (Nat.le_refl _)
          have e1 : ls_bf (ls_rM (A (t + p + 1) a) (A (t + p + 1) b)).2.2.1 = ls_bf (A (t + p + 1) b).2.2.1 := rfl
          have e2 : ls_bf (ls_rM (A (t + p + 1) b) (A (t + p + 1) a)).2.2.1 = ls_bf (A (t + p + 1) a).2.2.1 := rfl
          omega
end
/-! ===== the constructors ===== -/
def ls_cl (x : Int32) (lo hi : Nat) : Nat := if nI lo ≤ x then (if x ≤ nI hi then x.toNatClampNeg else hi) else lo
theorem ls_clb (x : Int32) {lo hi : Nat} (h : lo ≤ hi) (hh : hi < 2 ^ 31) : lo ≤ ls_cl x lo hi ∧ ls_cl x lo hi ≤ hi := by
  unfold ls_cl
  by_cases z : nI lo ≤ x
  · rw [if_pos z]
    by_cases y : x ≤ nI hi
    · rw [if_pos y]
      have x0 : ¬ x < 0 := fun q => nI_pos (n := lo) (by omega) (Int32.lt_of_le_of_lt z q)
      obtain ⟨j, hj, rfl⟩ := nI_of x0
      rw [nI_clamp hj]
      exact ⟨(nI_leI (by omega) hj).mp z, (nI_leI hj hh).mp y⟩
    · rw [if_neg y]; omega
  · rw [if_neg z]; omega
theorem ls_clE {F : Int32 → Prop} (x : Int32) {lo hi : Nat} (hh : lo < 2 ^ 31) (k : F (nI (ls_cl x lo hi))) : (nI lo ≤ x → ((x ≤ nI hi → F x) ∧ (¬ x ≤ nI hi → F (nI hi)))) ∧ (¬ nI lo ≤ x → F (nI lo)) := by
  unfold ls_cl at k
  refine br_c (fun z => ?_) (fun z => ?_)
  · rw [if_pos z] at k
    refine br_c (fun y => ?_) (fun y => ?_)
    · rw [if_pos y] at k
      have x0 : ¬ x < 0 := fun q => nI_pos (n := lo) hh (Int32.lt_of_le_of_lt z q)
      obtain ⟨j, hj, rfl⟩ := nI_of x0
      rw [nI_clamp hj] at k
      exact k
    · rw [if_neg y] at k; exact k
  · rw [if_neg z] at k; exact k
theorem ls_xClamp {post : Int32 → Prop} (u : SX) (x : Int32) {lo hi : Nat} (hh : lo < 2 ^ 31) (k : post (nI (ls_cl x lo hi))) : wpX_clamp post u x (nI lo) (nI hi) := by
  obtain ⟨sF, sC, sH, sV, fl, bl, tl, ln, fs, hd, hu, vi, vs, tc, pc, np, mo, dk, pa, lv, ss, sl, op⟩ := u
  unfold wpX_clamp
  exact ls_clE (F := post) x hh k
theorem ls_cn2 : ∀ d, ls_cn (fun s => 2 ≤ s) (2 + d) = d := by
  intro d
  induction d with
  | zero =>
    exact ls_cn_no 2 (fun n hn z => by omega)
  | succ d ih =>
    show ls_cn (fun s => 2 ≤ s) (2 + d + 1) = d + 1
    rw [ls_cn_t (p := fun s => 2 ≤ s) (show 2 ≤ 2 + d by omega), ih]
theorem ls_x0 {fl bl tl : Nat} : ls_RX (fl, bl, tl, 0, 0, 0, 1, fun _ => ls_E0, fun _ => (0, 0)) (0, 1, 2, 3, nI fl, nI bl, nI tl, 0, 30, 1, 0, 0, 0, 0, 0, 0, 1, upd (fun _ => 0) 5 1, (fun _ => 0), (fun _ => 0), upd (fun _ => 0) 1 2, (fun _ => 0), (fun _ => 0)) := by
  have hLA : ls_LA 0 30 1 0 0 0 (upd (fun _ => 0) 5 1) (fun _ => 0) (ls_u (fun _ => 0) 1 2) (fun _ => 0) := by
    refine ⟨⟨by omega, by omega, by omega, by omega, ls_us⟩, fun s s1 s2 => ?_, Or.inl rfl, ?_, rfl, fun n _ h0 => absurd rfl h0, fun s s1 s2 => ?_⟩
    · by_cases e : s = 1
      · subst e; rw [ls_us]; exact ⟨by omega, fun _ => rfl, fun z => by omega⟩
      · rw [ls_un e]; exact ⟨by omega, fun z => by omega, fun z => by omega⟩
    · have h := ls_cn_cg (p := fun s => 1 ≤ s ∧ ls_u (fun _ => 0) 1 2 s = 0) (q := fun s => 2 ≤ s) 32 (fun s _ => by
        by_cases e : s = 1
        · subst e; rw [ls_us]; exact ⟨fun z => by omega, fun z => by omega⟩
        · rw [ls_un e]; exact ⟨fun z => by omega, fun z => ⟨by omega, rfl⟩⟩)
      rw [h]
      exact (ls_cn2 30).symm
    · exact (ls_cn_no _ (fun n _ (z : 0 / 8 = s) => by omega)).symm
  have hR : ∀ n w, w < 4 → ls_rd (upd (fun _ => 0) 5 1) (fun _ => 0) n w = 0 := by
    intro n w hw
    unfold ls_rd
    split
    · show upd (fun _ => 0) 5 1 (4 * 0 + w) = 0
      exact pk_un (by omega)
    · rfl
  have hnp : ∀ n, ¬ ls_pl (fun _ => 0) n := fun n z => z.2 rfl
  have hHC : ls_HC (ls_rd (upd (fun _ => 0) 5 1) (fun _ => 0)) (ls_pl (fun _ => 0)) (fun _ => 0) := ⟨fun w hw => hR 0 w hw, hnp 0, fun n hn => absurd hn (hnp n), fun n hn => absurd hn (hnp n)⟩
  have hV : ls_RO (ls_pl (fun _ => 0)) (fun _ => 0) 0 ∧ ls_VX (ls_rd (upd (fun _ => 0) 5 1) (fun _ => 0)) (ls_pl (fun _ => 0)) (fun _ => 0) 0 ls_E0 := by
    refine ⟨Or.inl rfl, fun f hf => ?_⟩
    rw [ls_ino0 hHC.1 hf]
    refine ⟨Or.inl rfl, hHC.1 0 (by omega), ?_⟩
    rw [hHC.1 1 (by omega)]
    exact ls_dp0 hHC.1
  refine ⟨0, 1, 2, 3, 0, upd (fun _ => 0) 5 1, _, _, fun _ => 0, fun _ => 0, ⟨0, 30, 1, 0, 0, 0, upd (fun _ => 0) 5 1, fun _ => 0, fun _ => 0, ls_u (fun _ => 0) 1 2, fun _ => 0, ?_, ⟨hLA, ⟨fun _ => by omega, fun z => absurd rfl z⟩, rfl, rfl, fun _ _ => rfl⟩, Or.inl rfl⟩, ?_, ⟨hHC, fun k _ => hV, fun k k1 k2 => by omega, fun i hi => by omega⟩, fun n hn => absurd hn (hnp n)⟩
  · rw [← ls_uf (P := fun _ => 0) (k := 1) (x := 2) (y := 2) rfl]
    rfl
  · refine ⟨by omega, fun w hw => pk_un (by omega), pk_un (by omega), pk_us, pk_un (by omega), pk_un (by omega), fun _ => rfl⟩
theorem ls_y125 {post : SY → Prop} {fl bl tl tc pc hp mo : Int32} {ge wo ca cb : Nat → Int32} (k : ∀ sz, (∀ j, j < 208 → sz j = -1) → post (fl, bl, tl, 0, 0, 0, 1, ge, sz, wo, ca, cb)) :
    ∀ d x n sz, x + d = 208 → d < n → (∀ j, j < x → sz j = -1) → wY_init_125 post fl bl tl tc pc hp mo n (nI x) ge sz wo ca cb := by
  intro d
  induction d with
  | zero =>
    intro x n sz hx hn hz
    obtain ⟨n, rfl⟩ : ∃ n', n = n' + 1 := ⟨n - 1, by omega⟩
    obtain rfl : x = 208 := by omega
    exact br_t (nI_le (a := 208) (by omega) (by decide)) (k sz hz)
  | succ d ih =>
    intro x n sz hx hn hz
    obtain ⟨n, rfl⟩ : ∃ n', n = n' + 1 := ⟨n - 1, by omega⟩
    refine br_f (nI_ge (b := 208) (by omega) (by decide)) ⟨vp_in_nI (by omega) (by decide), nm_r (e' := upd sz x (-1)) (by rw [nI_clamp (by omega)]) (nm_r (nI_1 x) (ih (x + 1) n _ (by omega) (by omega) (fun j hj => ?_)))⟩
    by_cases z : j = x
    · subst z; exact pk_us
    · rw [pk_un z]; exact hz j (by omega)
theorem ls_y0 {fl bl tl : Nat} {sz : Nat → Int32} (h : ∀ j, j < 208 → sz j = -1) : ls_RY (fl, bl, tl, 0, 0, 0, 1, fun _ => ls_E0, fun _ => (0, 0)) (nI fl, nI bl, nI tl, 0, 0, 0, 1, (fun _ => 0), sz, (fun _ => 0), (fun _ => 0), (fun _ => 0)) := by
  refine ⟨fun _ => 0, sz, fun _ => 0, fun _ => 0, fun _ => 0, rfl, fun k hk h0 f hf => ⟨rfl, ?_, fun y hy => absurd hy (Nat.not_lt_zero _)⟩, fun i hi => absurd hi (Nat.not_lt_zero _)⟩
  rw [h _ (by omega)]
  rfl
theorem ls_yInit {post : SY → Prop} {a b c : Int32} (k : ∀ sz, (∀ j, j < 208 → sz j = -1) → post (nI (ls_cl a 2 8), nI (ls_cl b 2 24), nI (ls_cl c 4 24), 0, 0, 0, 1, (fun _ => 0), sz, (fun _ => 0), (fun _ => 0), (fun _ => 0))) : wpY_init post a b c := by
  unfold wpY_init
  refine ls_clE (lo := 2) (hi := 8) (F := fun z => wY_init_69 post b c z 0 0 0 0 0 0 0 (fun _ => 0) (fun _ => 0) (fun _ => 0) (fun _ => 0) (fun _ => 0)) a (by decide) ?_
  unfold wY_init_69
  refine ls_clE (lo := 2) (hi := 24) (F := fun z => wY_init_94 post c z (nI (ls_cl a 2 8)) 0 0 0 0 0 0 (fun _ => 0) (fun _ => 0) (fun _ => 0) (fun _ => 0) (fun _ => 0)) b (by decide) ?_
  unfold wY_init_94
  refine ls_clE (lo := 4) (hi := 24) (F := fun z => ∃ n125 : Nat, wY_init_125 post (nI (ls_cl a 2 8)) (nI (ls_cl b 2 24)) z 0 0 0 0 n125 0 (fun _ => 0) (fun _ => 0) (fun _ => 0) (fun _ => 0) (fun _ => 0)) c (by decide) ?_
  exact ⟨209, ls_y125 k 208 0 209 _ (by omega) (by omega) (fun j hj => by omega)⟩
theorem ls_w0 (a b c : Int32) : ls_CW (ls_cl a 2 8, ls_cl b 2 24, ls_cl c 4 24, 0, 0, 0, 1, fun _ => ls_E0, fun _ => (0, 0)) := by
  have ha := ls_clb a (lo := 2) (hi := 8) (by omega) (by decide)
  have hb := ls_clb b (lo := 2) (hi := 24) (by omega) (by decide)
  have hc := ls_clb c (lo := 4) (hi := 24) (by omega) (by decide)
  exact ⟨⟨ha.1, ha.2, hb.2, hc.2, by omega, by omega, by omega, fun z => by omega⟩, fun k _ f _ => ⟨ls_WE0, fun _ => rfl⟩, fun k _ => by show ls_used ls_E0 ≤ _; rw [ls_UE0]; exact Nat.zero_le _, fun i hi => absurd hi (Nat.not_lt_zero _)⟩
end
section
/-- one abstract state stands behind both objects -/
def i_Rel (_ : Nat) (u : SX) (v : SY) : Prop := ∃ c : ls_C, ls_CW c ∧ ls_RX c u ∧ ls_RY c v
theorem i_up {k : Nat} {u : SX} {v : SY} (h : i_Rel k u v) : i_Rel (k + 4) u v := h
theorem i_vc0 (k0 : Int32) (k1 : Int32) (k2 : Int32) : wpX_init (fun u => wpY_init (fun v => i_Rel 3 u v) k0 k1 k2) k0 k1 k2 := by
  unfold wpX_init
  refine ls_xClamp _ k0 (lo := 2) (hi := 8) (by decide) ?_
  refine ls_xClamp _ k1 (lo := 2) (hi := 24) (by decide) ?_
  refine ls_xClamp _ k2 (lo := 4) (hi := 24) (by decide) ?_
  refine nm_e (nm_e ?_)
  exact ls_yInit (fun sz hz => ⟨_, ls_w0 k0 k1 k2, ls_x0, ls_y0 hz⟩)
theorem i_vc_create {k : Nat} {u : SX} {v : SY} (I : i_Rel k u v) (hk : k + 4 ≤ 2051) (v1 : Int32) : wpX_create (fun r u' => wpY_create (fun r' v' => r' = r ∧ i_Rel (k + 4) u' v') v v1) u v1 := by
  obtain ⟨⟨fl, bl, tl, t, p, hp, mo, A, M⟩, w, hX, hY⟩ := I
  exact ls_xCreate w hX (fun u' hu' => ls_yCreate w hY (fun v' hv' => ⟨rfl, _, ls_CWc1 w (fun f m0 hf => ls_CWcreate w m0 hf), hu', hv'⟩))
theorem i_vc_write {k : Nat} {u : SX} {v : SY} (I : i_Rel k u v) (hk : k + 4 ≤ 2051) (v1 : Int32) (v2 : Int32) (v3 : Int32) : wpX_write (fun r u' => wpY_write (fun r' v' => r' = r ∧ i_Rel (k + 4) u' v') v v1 v2 v3) u v1 v2 v3 := by
  obtain ⟨⟨fl, bl, tl, t, p, hp, mo, A, M⟩, w, hX, hY⟩ := I
  exact ls_xWrite w hX (fun u' hu' => ls_yWrite w hY (fun v' hv' => ⟨rfl, _, ls_CWc1 w (fun f m0 hf => ls_CWwrite w m0 hf), hu', hv'⟩))
theorem i_vc_truncate {k : Nat} {u : SX} {v : SY} (I : i_Rel k u v) (hk : k + 4 ≤ 2051) (v1 : Int32) (v2 : Int32) : wpX_truncate (fun r u' => wpY_truncate (fun r' v' => r' = r ∧ i_Rel (k + 4) u' v') v v1 v2) u v1 v2 := by
  obtain ⟨⟨fl, bl, tl, t, p, hp, mo, A, M⟩, w, hX, hY⟩ := I
  exact ls_xTrunc w hX (fun u' hu' => ls_yTrunc w hY (fun v' hv' => ⟨rfl, _, ls_CWc1 w (fun f m0 hf => ls_CWtrunc w m0 hf), hu', hv'⟩))
theorem i_vc_remove {k : Nat} {u : SX} {v : SY} (I : i_Rel k u v) (hk : k + 4 ≤ 2051) (v1 : Int32) : wpX_remove (fun r u' => wpY_remove (fun r' v' => r' = r ∧ i_Rel (k + 4) u' v') v v1) u v1 := by
  obtain ⟨⟨fl, bl, tl, t, p, hp, mo, A, M⟩, w, hX, hY⟩ := I
  exact ls_xRemove w hX (fun u' hu' => ls_yRemove w hY (fun v' hv' => ⟨rfl, _, ls_CWc1 w (fun f m0 hf => ls_CWremove w m0 hf), hu', hv'⟩))
theorem i_vc_rename {k : Nat} {u : SX} {v : SY} (I : i_Rel k u v) (hk : k + 4 ≤ 2051) (v1 : Int32) (v2 : Int32) : wpX_rename (fun r u' => wpY_rename (fun r' v' => r' = r ∧ i_Rel (k + 4) u' v') v v1 v2) u v1 v2 := by
  obtain ⟨⟨fl, bl, tl, t, p, hp, mo, A, M⟩, w, hX, hY⟩ := I
  exact ls_xRename w hX (fun u' hu' => ls_yRename w hY (fun v' hv' => ⟨rfl, _, ls_CWc2 w (fun f g m0 hf hg => ls_CWrename w m0 hf hg), hu', hv'⟩))
theorem i_vc_exchange {k : Nat} {u : SX} {v : SY} (I : i_Rel k u v) (hk : k + 4 ≤ 2051) (v1 : Int32) (v2 : Int32) : wpX_exchange (fun r u' => wpY_exchange (fun r' v' => r' = r ∧ i_Rel (k + 4) u' v') v v1 v2) u v1 v2 := by
  obtain ⟨⟨fl, bl, tl, t, p, hp, mo, A, M⟩, w, hX, hY⟩ := I
  exact ls_xExch w hX (fun u' hu' => ls_yExch w hY (fun v' hv' => ⟨rfl, _, ls_CWc2 w (fun f g m0 hf hg => ls_CWexch w m0 hf hg), hu', hv'⟩))
theorem i_vc_flush {k : Nat} {u : SX} {v : SY} (I : i_Rel k u v) (hk : k + 4 ≤ 2051) (v1 : Int32) : wpX_flush (fun r u' => wpY_flush (fun r' v' => r' = r ∧ i_Rel (k + 4) u' v') v v1) u v1 := by
  obtain ⟨⟨fl, bl, tl, t, p, hp, mo, A, M⟩, w, hX, hY⟩ := I
  exact ls_xFlush w hX (fun u' hu' => ls_yFlush w hY (fun v' hv' => ⟨rfl, _, ls_CWflush w v1, hu', hv'⟩))
theorem i_vc_fsync {k : Nat} {u : SX} {v : SY} (I : i_Rel k u v) (hk : k + 4 ≤ 2051) (v1 : Int32) : wpX_fsync (fun r u' => wpY_fsync (fun r' v' => r' = r ∧ i_Rel (k + 4) u' v') v v1) u v1 := by
  obtain ⟨⟨fl, bl, tl, t, p, hp, mo, A, M⟩, w, hX, hY⟩ := I
  exact ls_xFsync w hX (fun u' hu' => ls_yFsync w hY (fun v' hv' => ⟨rfl, _, ls_CWc1 w (fun f m0 hf => ls_CWfl w (ls_la_le _ _ _ _)), hu', hv'⟩))
theorem i_vc_checkpoint {k : Nat} {u : SX} {v : SY} (I : i_Rel k u v) (hk : k + 4 ≤ 2051) : wpX_checkpoint (fun r u' => wpY_checkpoint (fun r' v' => r' = r ∧ i_Rel (k + 4) u' v') v) u := by
  obtain ⟨⟨fl, bl, tl, t, p, hp, mo, A, M⟩, w, hX, hY⟩ := I
  exact ls_xCheck w hX (fun u' hu' => ls_yCheck w hY (fun v' hv' => ⟨rfl, _, ls_CWcheck w, hu', hv'⟩))
theorem i_vc_clean {k : Nat} {u : SX} {v : SY} (I : i_Rel k u v) (hk : k + 4 ≤ 2051) (v1 : Int32) : wpX_clean (fun r u' => wpY_clean (fun r' => r' = r ∧ i_Rel (k + 4) u' v) v v1) u v1 := by
  obtain ⟨⟨fl, bl, tl, t, p, hp, mo, A, M⟩, w, hX, hY⟩ := I
  exact ls_xClean w hX (fun u' hu' => ls_yClean w hY ⟨rfl, _, w, hu', hY⟩)
theorem i_vc_crash {k : Nat} {u : SX} {v : SY} (I : i_Rel k u v) (hk : k + 4 ≤ 2051) (v1 : Int32) : wpX_crash (fun r u' => wpY_crash (fun r' v' => r' = r ∧ i_Rel (k + 4) u' v') v v1) u v1 := by
  obtain ⟨⟨fl, bl, tl, t, p, hp, mo, A, M⟩, w, hX, hY⟩ := I
  exact ls_xCrash w hX (fun u' hu' => ls_yCrash w hY (fun v' hv' => ⟨rfl, _, ls_CWcrash w v1, hu', hv'⟩))
theorem i_vc_crashInCheckpoint {k : Nat} {u : SX} {v : SY} (I : i_Rel k u v) (hk : k + 4 ≤ 2051) : wpX_crashInCheckpoint (fun r u' => wpY_crashInCheckpoint (fun r' v' => r' = r ∧ i_Rel (k + 4) u' v') v) u := by
  obtain ⟨⟨fl, bl, tl, t, p, hp, mo, A, M⟩, w, hX, hY⟩ := I
  exact ls_xCIC w hX (fun u' hu' => ls_yCIC w hY (fun v' hv' => ⟨rfl, _, ls_CWcic w, hu', hv'⟩))
theorem i_vc_mount {k : Nat} {u : SX} {v : SY} (I : i_Rel k u v) (hk : k + 4 ≤ 2051) (v1 : Int32) (v2 : Int32) : wpX_mount (fun r u' => wpY_mount (fun r' v' => r' = r ∧ i_Rel (k + 4) u' v') v v1 v2) u v1 v2 := by
  obtain ⟨⟨fl, bl, tl, t, p, hp, mo, A, M⟩, w, hX, hY⟩ := I
  exact ls_xMount w hX (fun u' hu' => ls_yMount w hY (fun v' hv' => ⟨rfl, _, ls_CWmount w v1 v2, hu', hv'⟩))
theorem i_vc_isMounted {k : Nat} {u : SX} {v : SY} (I : i_Rel k u v) (hk : k + 4 ≤ 2051) : wpX_isMounted (fun r => wpY_isMounted (fun r' => r' = r ∧ i_Rel (k + 4) u v) v) u := by
  obtain ⟨⟨fl, bl, tl, t, p, hp, mo, A, M⟩, w, hX, hY⟩ := I
  exact ls_xIsM w hX (ls_yIsM w hY ⟨rfl, _, w, hX, hY⟩)
theorem i_vc_tailLength {k : Nat} {u : SX} {v : SY} (I : i_Rel k u v) (hk : k + 4 ≤ 2051) : wpX_tailLength (fun r => wpY_tailLength (fun r' => r' = r ∧ i_Rel (k + 4) u v) v) u := by
  obtain ⟨⟨fl, bl, tl, t, p, hp, mo, A, M⟩, w, hX, hY⟩ := I
  exact ls_xTL hX (ls_yTL hY ⟨rfl, _, w, hX, hY⟩)
theorem i_vc_pendingLength {k : Nat} {u : SX} {v : SY} (I : i_Rel k u v) (hk : k + 4 ≤ 2051) : wpX_pendingLength (fun r => wpY_pendingLength (fun r' => r' = r ∧ i_Rel (k + 4) u v) v) u := by
  obtain ⟨⟨fl, bl, tl, t, p, hp, mo, A, M⟩, w, hX, hY⟩ := I
  exact ls_xPL hX (ls_yPL hY ⟨rfl, _, w, hX, hY⟩)
theorem i_vc_hasPrevious {k : Nat} {u : SX} {v : SY} (I : i_Rel k u v) (hk : k + 4 ≤ 2051) : wpX_hasPrevious (fun r => wpY_hasPrevious (fun r' => r' = r ∧ i_Rel (k + 4) u v) v) u := by
  obtain ⟨⟨fl, bl, tl, t, p, hp, mo, A, M⟩, w, hX, hY⟩ := I
  exact ls_xHP w hX (ls_yHP w hY ⟨rfl, _, w, hX, hY⟩)
theorem i_vc_sizeOf {k : Nat} {u : SX} {v : SY} (I : i_Rel k u v) (hk : k + 4 ≤ 2051) (v1 : Int32) (v2 : Int32) : wpX_sizeOf (fun r => wpY_sizeOf (fun r' => r' = r ∧ i_Rel (k + 4) u v) v v1 v2) u v1 v2 := by
  obtain ⟨⟨fl, bl, tl, t, p, hp, mo, A, M⟩, w, hX, hY⟩ := I
  exact ls_xSizeOf w hX (ls_ySizeOf w hY ⟨rfl, _, w, hX, hY⟩)
theorem i_vc_generationOf {k : Nat} {u : SX} {v : SY} (I : i_Rel k u v) (hk : k + 4 ≤ 2051) (v1 : Int32) (v2 : Int32) : wpX_generationOf (fun r => wpY_generationOf (fun r' => r' = r ∧ i_Rel (k + 4) u v) v v1 v2) u v1 v2 := by
  obtain ⟨⟨fl, bl, tl, t, p, hp, mo, A, M⟩, w, hX, hY⟩ := I
  exact ls_xGenOf w hX (ls_yGenOf w hY ⟨rfl, _, w, hX, hY⟩)
theorem i_vc_wordAt {k : Nat} {u : SX} {v : SY} (I : i_Rel k u v) (hk : k + 4 ≤ 2051) (v1 : Int32) (v2 : Int32) (v3 : Int32) : wpX_wordAt (fun r => wpY_wordAt (fun r' => r' = r ∧ i_Rel (k + 4) u v) v v1 v2 v3) u v1 v2 v3 := by
  obtain ⟨⟨fl, bl, tl, t, p, hp, mo, A, M⟩, w, hX, hY⟩ := I
  exact ls_xWordAt w hX (ls_yWordAt w hY ⟨rfl, _, w, hX, hY⟩)
theorem i_vc_usedBlocks {k : Nat} {u : SX} {v : SY} (I : i_Rel k u v) (hk : k + 4 ≤ 2051) (v1 : Int32) : wpX_usedBlocks (fun r => wpY_usedBlocks (fun r' => r' = r ∧ i_Rel (k + 4) u v) v v1) u v1 := by
  obtain ⟨⟨fl, bl, tl, t, p, hp, mo, A, M⟩, w, hX, hY⟩ := I
  exact ls_xUsedB w hX (ls_yUsedB w hY ⟨rfl, _, w, hX, hY⟩)
theorem i_vc_digest {k : Nat} {u : SX} {v : SY} (I : i_Rel k u v) (hk : k + 4 ≤ 2051) (v1 : Int32) : wpX_digest (fun r => wpY_digest (fun r' => r' = r ∧ i_Rel (k + 4) u v) v v1) u v1 := by
  obtain ⟨⟨fl, bl, tl, t, p, hp, mo, A, M⟩, w, hX, hY⟩ := I
  exact ls_xDigest w hX (ls_yDigest w hY ⟨rfl, _, w, hX, hY⟩)
end
