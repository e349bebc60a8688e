section
/-! pure rows to paste: stores, nI and lN arithmetic, masks, shifts, narrowing, branches by naturals (pk_le, pk_lt, pk_eq), loops (lp1 .. lp16: the measure of the state; rp1 ..: recursion), negatives. Take what you need -/
theorem pk_us {f : Nat → Int32} {k : Nat} {x : Int32} : upd f k x k = x := if_pos rfl
theorem pk_un {f : Nat → Int32} {k j : Nat} {x : Int32} (h : j ≠ k) : upd f k x j = f j := if_neg h
theorem pk_uLs {f : Nat → Int64} {k : Nat} {x : Int64} : vp_updL f k x k = x := if_pos rfl
theorem pk_uLn {f : Nat → Int64} {k j : Nat} {x : Int64} (h : j ≠ k) : vp_updL f k x j = f j := if_neg h
theorem pk_sub {a b : Nat} (h : b ≤ a) : nI a - nI b = nI (a - b) := by
  obtain ⟨c, rfl⟩ : ∃ c, a = c + b := ⟨a - b, by omega⟩
  rw [← nI_add, Int32.add_sub_cancel, Nat.add_sub_cancel]
theorem pk_m1 (n : Nat) : nI (n + 1) + (-1) = nI n := by
  rw [← nI_1, Int32.add_assoc, show (1 : Int32) + (-1) = 0 from rfl, Int32.add_zero]
theorem pk_mul (a b : Nat) : nI a * nI b = nI (a * b) := (Int32.ofNat_mul a b).symm
theorem pk_div {a d : Nat} (ha : a < 2 ^ 31) (h0 : 0 < d) (hd : d < 2 ^ 31) : nI a / nI d = nI (a / d) := by
  apply Int32.toInt_inj.mp
  rw [lg_idiv_nonneg (by rw [nI_toInt ha]; omega) (by rw [nI_toInt hd]; omega), nI_toInt ha, nI_toInt hd, nI_toInt (Nat.lt_of_le_of_lt (Nat.div_le_self a d) ha)]
  first | rfl | exact (Int.natCast_ediv _ _).symm
theorem pk_rem {a d : Nat} (ha : a < 2 ^ 31) (h0 : 0 < d) (hd : d < 2 ^ 31) : nI a - nI a / nI d * nI d = nI (a % d) := by
  rw [pk_div ha h0 hd, pk_mul, pk_sub (Nat.div_mul_le_self a d)]
  exact congrArg nI (by have := Nat.div_add_mod' a d; omega)
theorem pk_sub_toInt {a b : Nat} (ha : a < 2 ^ 30) (hb : b < 2 ^ 30) : (nI a - nI b).toInt = (a : Int) - b := by
  rw [Int32.toInt_sub, nI_toInt (by omega), nI_toInt (by omega)]
  exact Int.bmod_eq_of_le (by omega) (by omega)
theorem pk_sneg {a b : Nat} (hb : b < 2 ^ 30) (h : a < b) : nI a - nI b < 0 := by
  rw [Int32.lt_iff_toInt_lt, pk_sub_toInt (by omega) hb, show (0 : Int32).toInt = 0 from by decide]
  omega
theorem pk_ix (x : Int32) {n : Nat} (hn : n < 2 ^ 31) : x < 0 ∨ nI n ≤ x ∨ ∃ j : Nat, j < n ∧ x = nI j := by
  by_cases h : x < 0
  · exact Or.inl h
  · obtain ⟨j, hj, rfl⟩ := nI_of h
    by_cases h2 : j < n
    · exact Or.inr (Or.inr ⟨j, h2, rfl⟩)
    · exact Or.inr (Or.inl (nI_le (by omega) hj))
theorem pk_le {x y : Int32} {A B : Prop} (a b : Nat) (f : a ≤ b → A) (g : b < a → B) (hx : x = nI a := by rfl) (hy : y = nI b := by rfl) (ha : a < 2 ^ 31 := by omega) (hb : b < 2 ^ 31 := by omega) : (x ≤ y → A) ∧ (¬ x ≤ y → B) := by
  subst hx hy
  rw [nI_leI ha hb]
  exact ⟨f, fun z => g (by omega)⟩
theorem pk_lt {x y : Int32} {A B : Prop} (a b : Nat) (f : a < b → A) (g : b ≤ a → B) (hx : x = nI a := by rfl) (hy : y = nI b := by rfl) (ha : a < 2 ^ 31 := by omega) (hb : b < 2 ^ 31 := by omega) : (x < y → A) ∧ (¬ x < y → B) := by
  subst hx hy
  rw [nI_ltI ha hb]
  exact ⟨f, fun z => g (by omega)⟩
theorem pk_eq {x y : Int32} {A B : Prop} (a b : Nat) (f : a = b → A) (g : a ≠ b → B) (hx : x = nI a := by rfl) (hy : y = nI b := by rfl) (ha : a < 2 ^ 31 := by omega) (hb : b < 2 ^ 31 := by omega) : (x = y → A) ∧ (¬ x = y → B) := by
  subst hx hy
  rw [nI_eq ha hb]
  exact ⟨f, g⟩
theorem pk_in {x : Int32} (n N : Nat) (h : n < N) (hx : x = nI n := by rfl) (hN : N < 2 ^ 31 := by omega) : vp_in x N := by
  subst hx
  exact vp_in_nI h hN
theorem pk_cl {x : Int32} (n : Nat) (hx : x = nI n := by rfl) (h : n < 2 ^ 31 := by omega) : x.toNatClampNeg = n := by
  subst hx
  exact nI_clamp h
theorem pk_tn {n : Nat} (h : n < 2 ^ 32) : (nI n).toBitVec.toNat = n := Nat.mod_eq_of_lt h
theorem pk_and (x : Int32) {m : Int32} (k : Nat) (hm : m.toBitVec.toNat = 2 ^ k - 1) : x &&& m = nI (x.toBitVec.toNat % 2 ^ k) := by
  apply Int32.toBitVec_inj.mp
  apply BitVec.eq_of_toNat_eq
  rw [Int32.toBitVec_and, BitVec.toNat_and, hm, Nat.and_two_pow_sub_one_eq_mod]
  show _ = (BitVec.ofNat 32 _).toNat
  rw [BitVec.toNat_ofNat]
  exact (Nat.mod_eq_of_lt (Nat.lt_of_le_of_lt (Nat.mod_le _ _) x.toBitVec.isLt)).symm
theorem pk_andN {n : Nat} (h : n < 2 ^ 32) {m : Int32} (k : Nat) (hm : m.toBitVec.toNat = 2 ^ k - 1) : nI n &&& m = nI (n % 2 ^ k) := by
  rw [pk_and _ k hm, pk_tn h]
theorem pk_andE (x : Int32) {m : Int32} (k : Nat) (hm : m.toBitVec.toNat = 2 ^ k - 1) : ∃ j : Nat, j < 2 ^ k ∧ x &&& m = nI j := ⟨_, Nat.mod_lt _ (Nat.two_pow_pos k), pk_and x k hm⟩
theorem pk_andIn (x : Int32) {m : Int32} (k : Nat) (hm : m.toBitVec.toNat = 2 ^ k - 1) (hk : k ≤ 30) : vp_in (x &&& m) (2 ^ k) := by
  obtain ⟨j, hj, e⟩ := pk_andE x k hm
  rw [e]
  exact vp_in_nI hj (Nat.lt_of_le_of_lt (Nat.pow_le_pow_right (by decide) hk) (by decide))
theorem pk_shl (a s : Int32) (k : Nat) (hs : (s.toBitVec.smod 32).toNat = k) : (a <<< s).toBitVec.toNat = a.toBitVec.toNat * 2 ^ k % 2 ^ 32 := by
  show (a.toBitVec <<< (s.toBitVec.smod 32).toNat).toNat = _
  rw [hs, BitVec.toNat_shiftLeft, Nat.shiftLeft_eq]
theorem pk_shlN {n : Nat} (s : Int32) (k : Nat) (hs : (s.toBitVec.smod 32).toNat = k) (h : n * 2 ^ k < 2 ^ 32) : nI n <<< s = nI (n * 2 ^ k) := by
  apply Int32.toBitVec_inj.mp
  apply BitVec.eq_of_toNat_eq
  have hn : n < 2 ^ 32 := Nat.lt_of_le_of_lt (Nat.le_mul_of_pos_right n (Nat.two_pow_pos k)) h
  rw [pk_shl _ _ k hs, pk_tn hn, pk_tn h, Nat.mod_eq_of_lt h]
theorem pk_shr (a s : Int32) (k : Nat) (hs : (s.toBitVec.smod 32).toNat = k) : (a >>> s).toInt = a.toInt >>> k := by
  show (a.toBitVec.sshiftRight (s.toBitVec.smod 32).toNat).toInt = _
  rw [hs, BitVec.toInt_sshiftRight]
  rfl
theorem pk_shrN {n : Nat} (h : n < 2 ^ 31) (s : Int32) (k : Nat) (hs : (s.toBitVec.smod 32).toNat = k) : nI n >>> s = nI (n / 2 ^ k) := by
  apply Int32.toInt_inj.mp
  have h2 : n / 2 ^ k ≤ n := Nat.div_le_self _ _
  rw [pk_shr _ _ k hs, nI_toInt h, nI_toInt (by omega), Int.shiftRight_eq_div_pow]
  rfl
theorem pk_ushr (x s : Int32) (k : Nat) (hs : ((s.toUInt32 &&& Int32.toUInt32 31).toBitVec % 32).toNat = k) : (x.toUInt32 >>> (s.toUInt32 &&& Int32.toUInt32 31)).toInt32.toBitVec.toNat = x.toBitVec.toNat / 2 ^ k := by
  have e : (x.toUInt32 >>> (s.toUInt32 &&& Int32.toUInt32 31)).toInt32.toBitVec = x.toBitVec >>> k := by
    rw [← hs]
    exact UInt32.toBitVec_shiftRight _ _
  rw [e, BitVec.toNat_ushiftRight, Nat.shiftRight_eq_div_pow]
theorem pk_ushrN {n : Nat} (hn : n < 2 ^ 32) (s : Int32) (k : Nat) (hs : ((s.toUInt32 &&& Int32.toUInt32 31).toBitVec % 32).toNat = k) : ((nI n).toUInt32 >>> (s.toUInt32 &&& Int32.toUInt32 31)).toInt32 = nI (n / 2 ^ k) := by
  apply Int32.toBitVec_inj.mp
  apply BitVec.eq_of_toNat_eq
  rw [pk_ushr _ s k hs, pk_tn hn, pk_tn (Nat.lt_of_le_of_lt (Nat.div_le_self _ _) hn)]
theorem pk_nb (z : Int32) : narrow .byte (.int z.toInt8.toInt32) = .int z.toInt8.toInt32 := congrArg Value.int (by simp)
theorem pk_ns (z : Int32) : narrow .short (.int z.toInt16.toInt32) = .int z.toInt16.toInt32 := congrArg Value.int (by simp)
theorem pk_fb (r : Int32) : fits .byte (.int r.toInt8.toInt32) = true := by
  have ⟨a, b⟩ := lg_i2b_range r
  have h1 : (-128 : Int32).toInt = -128 := by decide
  have h2 : (127 : Int32).toInt = 127 := by decide
  simp only [fits, Bool.and_eq_true, decide_eq_true_eq, Int32.le_iff_toInt_le, h1, h2]
  omega
theorem pk_fs (r : Int32) : fits .short (.int r.toInt16.toInt32) = true := by
  have ⟨a, b⟩ := lg_i2s_range r
  have h1 : (-32768 : Int32).toInt = -32768 := by decide
  have h2 : (32767 : Int32).toInt = 32767 := by decide
  simp only [fits, Bool.and_eq_true, decide_eq_true_eq, Int32.le_iff_toInt_le, h1, h2]
  omega
theorem pk_charN {q : Nat} (hq : q < 65536) : narrow .char (.int (nI q)) = .int (nI q) ∧ fits .char (.int (nI q)) = true := by
  constructor
  · have e : (nI q).toUInt32.toUInt16.toUInt32.toInt32 = nI q := by
      apply Int32.toBitVec_inj.mp
      apply BitVec.eq_of_toNat_eq
      show (nI q).toUInt32.toUInt16.toUInt32.toNat = q % 2 ^ 32
      rw [UInt16.toNat_toUInt32, UInt32.toNat_toUInt16, show (nI q).toUInt32.toNat = q % 2 ^ 32 from rfl]
      omega
    exact congrArg Value.int e
  · have a : (0 : Int32) ≤ nI q := nI_pos' (by omega)
    have b : nI q ≤ 65535 := nI_le (b := 65535) (by omega) (by decide)
    show (decide ((0 : Int32) ≤ nI q) && decide (nI q ≤ 65535)) = true
    rw [decide_eq_true a, decide_eq_true b]
    rfl
theorem pk_char (x : Int32) : (x.toUInt32 % 65536).toInt32 = nI (x.toBitVec.toNat % 65536) := by
  apply Int32.toBitVec_inj.mp
  apply BitVec.eq_of_toNat_eq
  rw [pk_tn (by omega)]
  show (x.toUInt32 % 65536).toNat = _
  rw [UInt32.toNat_mod]
  rfl
theorem pk_nc (x : Int32) : narrow .char (.int (x.toUInt32 % 65536).toInt32) = .int (x.toUInt32 % 65536).toInt32 := by
  rw [pk_char]
  exact (pk_charN (Nat.mod_lt _ (by decide))).1
theorem pk_fc (x : Int32) : fits .char (.int (x.toUInt32 % 65536).toInt32) = true := by
  rw [pk_char]
  exact (pk_charN (Nat.mod_lt _ (by decide))).2
theorem pk_vb (z : Int32) : vp_nar .byte z.toInt8.toInt32 = z.toInt8.toInt32 := by rw [vp_nar_byte]; simp
theorem pk_vs (z : Int32) : vp_nar .short z.toInt16.toInt32 = z.toInt16.toInt32 := by rw [vp_nar_short]; simp
theorem pk_vc (z : Int32) : vp_nar .char (z.toUInt32 % 65536).toInt32 = (z.toUInt32 % 65536).toInt32 := Value.int.inj (pk_nc z)
theorem pk_lT {n : Nat} (h : n < 2 ^ 63) : (lN n).toInt = (n : Int) := lg_ofNat_toInt h
theorem pk_lLT {a b : Nat} (ha : a < 2 ^ 63) (hb : b < 2 ^ 63) : lN a < lN b ↔ a < b := by
  rw [Int64.lt_iff_toInt_lt, pk_lT ha, pk_lT hb]; omega
theorem pk_lLE {a b : Nat} (ha : a < 2 ^ 63) (hb : b < 2 ^ 63) : lN a ≤ lN b ↔ a ≤ b := by
  rw [Int64.le_iff_toInt_le, pk_lT ha, pk_lT hb]; omega
theorem pk_lEQ {a b : Nat} (ha : a < 2 ^ 63) (hb : b < 2 ^ 63) : lN a = lN b ↔ a = b := by
  rw [← Int64.toInt_inj, pk_lT ha, pk_lT hb]; omega
theorem pk_lOf {x : Int64} (h : ¬ x < 0) : ∃ k : Nat, k < 2 ^ 63 ∧ x = lN k := by
  rw [Int64.lt_iff_toInt_lt] at h
  have h0 : (0 : Int64).toInt = 0 := by decide
  have hx := Int64.toInt_lt x
  refine ⟨x.toInt.toNat, by omega, Int64.toInt_inj.mp ?_⟩
  rw [pk_lT (by omega)]
  omega
theorem pk_lDiv {a b : Nat} (ha : a < 2 ^ 63) (h0 : 0 < b) (hb : b < 2 ^ 63) : lN a / lN b = lN (a / b) := by
  apply Int64.toInt_inj.mp
  rw [lg_ldiv_nonneg (by rw [pk_lT ha]; omega) (by rw [pk_lT hb]; omega), pk_lT ha, pk_lT hb, pk_lT (Nat.lt_of_le_of_lt (Nat.div_le_self a b) ha)]
  rfl
theorem pk_lRem {a b : Nat} (ha : a < 2 ^ 63) (h0 : 0 < b) (hb : b < 2 ^ 63) : lN a - lN a / lN b * lN b = lN (a % b) := by
  rw [pk_lDiv ha h0 hb, lN_mul, lN_sub (Nat.div_mul_le_self a b)]
  exact congrArg lN (by have := Nat.div_add_mod' a b; omega)
theorem pk_loop {σ : Type} (W : Nat → Nat → σ → Prop) (I : Nat → σ → Prop) (e i0 : Nat) (s : σ) (hi : i0 ≤ e) (h0 : I i0 s) (hx : ∀ n s, I e s → W (n + 1) e s)
    (hs : ∀ n i s, i < e → I i s → (∀ s', I (i + 1) s' → W n (i + 1) s') → W (n + 1) i s) : ∃ n, W n i0 s :=
  ⟨e + 1, loop_i W I e hx hs (e + 1) i0 s hi (by omega) h0⟩
theorem pk_loopD {σ : Type} (W : Nat → Nat → σ → Prop) (I : Nat → σ → Prop) (hx : ∀ n s, I 0 s → W (n + 1) 0 s)
    (hs : ∀ n i s, I (i + 1) s → (∀ s', I i s' → W n i s') → W (n + 1) (i + 1) s) : ∀ (e : Nat) (s : σ), I e s → W (e + 1) e s := by
  intro e
  induction e with
  | zero => exact fun s h => hx 0 s h
  | succ e ih => exact fun s h => hs (e + 1) e s h (fun s' h' => ih s' h')
theorem lp1 {A1 : Type} (W : Nat → A1 → Prop) (I : A1 → Prop) (μ : A1 → Nat) (hs : ∀ (n : Nat) (a1 : A1), I a1 → (∀ (b1 : A1), I b1 → μ b1 < μ a1 → W n b1) → W (n + 1) a1) (a1 : A1) (h : I a1) : ∃ n, W n a1 :=
  loop_m (σ := A1) (fun n s => W n s) (fun s => I s) (fun s => μ s) (fun n s hI hk => hs n s hI (fun b1 h9 hm => hk b1 h9 hm)) a1 h
theorem lp2 {A1 A2 : Type} (W : Nat → A1 → A2 → Prop) (I : A1 → A2 → Prop) (μ : A1 → A2 → Nat) (hs : ∀ (n : Nat) (a1 : A1) (a2 : A2), I a1 a2 → (∀ (b1 : A1) (b2 : A2), I b1 b2 → μ b1 b2 < μ a1 a2 → W n b1 b2) → W (n + 1) a1 a2) (a1 : A1) (a2 : A2) (h : I a1 a2) : ∃ n, W n a1 a2 :=
  loop_m (σ := A1 × A2) (fun n s => W n s.1 s.2) (fun s => I s.1 s.2) (fun s => μ s.1 s.2) (fun n s hI hk => hs n s.1 s.2 hI (fun b1 b2 h9 hm => hk (b1, b2) h9 hm)) (a1, a2) h
theorem lp3 {A1 A2 A3 : Type} (W : Nat → A1 → A2 → A3 → Prop) (I : A1 → A2 → A3 → Prop) (μ : A1 → A2 → A3 → Nat) (hs : ∀ (n : Nat) (a1 : A1) (a2 : A2) (a3 : A3), I a1 a2 a3 → (∀ (b1 : A1) (b2 : A2) (b3 : A3), I b1 b2 b3 → μ b1 b2 b3 < μ a1 a2 a3 → W n b1 b2 b3) → W (n + 1) a1 a2 a3) (a1 : A1) (a2 : A2) (a3 : A3) (h : I a1 a2 a3) : ∃ n, W n a1 a2 a3 :=
  loop_m (σ := A1 × A2 × A3) (fun n s => W n s.1 s.2.1 s.2.2) (fun s => I s.1 s.2.1 s.2.2) (fun s => μ s.1 s.2.1 s.2.2) (fun n s hI hk => hs n s.1 s.2.1 s.2.2 hI (fun b1 b2 b3 h9 hm => hk (b1, b2, b3) h9 hm)) (a1, a2, a3) h
theorem lp4 {A1 A2 A3 A4 : Type} (W : Nat → A1 → A2 → A3 → A4 → Prop) (I : A1 → A2 → A3 → A4 → Prop) (μ : A1 → A2 → A3 → A4 → Nat) (hs : ∀ (n : Nat) (a1 : A1) (a2 : A2) (a3 : A3) (a4 : A4), I a1 a2 a3 a4 → (∀ (b1 : A1) (b2 : A2) (b3 : A3) (b4 : A4), I b1 b2 b3 b4 → μ b1 b2 b3 b4 < μ a1 a2 a3 a4 → W n b1 b2 b3 b4) → W (n + 1) a1 a2 a3 a4) (a1 : A1) (a2 : A2) (a3 : A3) (a4 : A4) (h : I a1 a2 a3 a4) : ∃ n, W n a1 a2 a3 a4 :=
  loop_m (σ := A1 × A2 × A3 × A4) (fun n s => W n s.1 s.2.1 s.2.2.1 s.2.2.2) (fun s => I s.1 s.2.1 s.2.2.1 s.2.2.2) (fun s => μ s.1 s.2.1 s.2.2.1 s.2.2.2) (fun n s hI hk => hs n s.1 s.2.1 s.2.2.1 s.2.2.2 hI (fun b1 b2 b3 b4 h9 hm => hk (b1, b2, b3, b4) h9 hm)) (a1, a2, a3, a4) h
theorem lp5 {A1 A2 A3 A4 A5 : Type} (W : Nat → A1 → A2 → A3 → A4 → A5 → Prop) (I : A1 → A2 → A3 → A4 → A5 → Prop) (μ : A1 → A2 → A3 → A4 → A5 → Nat) (hs : ∀ (n : Nat) (a1 : A1) (a2 : A2) (a3 : A3) (a4 : A4) (a5 : A5), I a1 a2 a3 a4 a5 → (∀ (b1 : A1) (b2 : A2) (b3 : A3) (b4 : A4) (b5 : A5), I b1 b2 b3 b4 b5 → μ b1 b2 b3 b4 b5 < μ a1 a2 a3 a4 a5 → W n b1 b2 b3 b4 b5) → W (n + 1) a1 a2 a3 a4 a5) (a1 : A1) (a2 : A2) (a3 : A3) (a4 : A4) (a5 : A5) (h : I a1 a2 a3 a4 a5) : ∃ n, W n a1 a2 a3 a4 a5 :=
  loop_m (σ := A1 × A2 × A3 × A4 × A5) (fun n s => W n s.1 s.2.1 s.2.2.1 s.2.2.2.1 s.2.2.2.2) (fun s => I s.1 s.2.1 s.2.2.1 s.2.2.2.1 s.2.2.2.2) (fun s => μ s.1 s.2.1 s.2.2.1 s.2.2.2.1 s.2.2.2.2) (fun n s hI hk => hs n s.1 s.2.1 s.2.2.1 s.2.2.2.1 s.2.2.2.2 hI (fun b1 b2 b3 b4 b5 h9 hm => hk (b1, b2, b3, b4, b5) h9 hm)) (a1, a2, a3, a4, a5) h
theorem lp6 {A1 A2 A3 A4 A5 A6 : Type} (W : Nat → A1 → A2 → A3 → A4 → A5 → A6 → Prop) (I : A1 → A2 → A3 → A4 → A5 → A6 → Prop) (μ : A1 → A2 → A3 → A4 → A5 → A6 → Nat) (hs : ∀ (n : Nat) (a1 : A1) (a2 : A2) (a3 : A3) (a4 : A4) (a5 : A5) (a6 : A6), I a1 a2 a3 a4 a5 a6 → (∀ (b1 : A1) (b2 : A2) (b3 : A3) (b4 : A4) (b5 : A5) (b6 : A6), I b1 b2 b3 b4 b5 b6 → μ b1 b2 b3 b4 b5 b6 < μ a1 a2 a3 a4 a5 a6 → W n b1 b2 b3 b4 b5 b6) → W (n + 1) a1 a2 a3 a4 a5 a6) (a1 : A1) (a2 : A2) (a3 : A3) (a4 : A4) (a5 : A5) (a6 : A6) (h : I a1 a2 a3 a4 a5 a6) : ∃ n, W n a1 a2 a3 a4 a5 a6 :=
  loop_m (σ := A1 × A2 × A3 × A4 × A5 × A6) (fun n s => W n s.1 s.2.1 s.2.2.1 s.2.2.2.1 s.2.2.2.2.1 s.2.2.2.2.2) (fun s => I s.1 s.2.1 s.2.2.1 s.2.2.2.1 s.2.2.2.2.1 s.2.2.2.2.2) (fun s => μ s.1 s.2.1 s.2.2.1 s.2.2.2.1 s.2.2.2.2.1 s.2.2.2.2.2) (fun n s hI hk => hs n s.1 s.2.1 s.2.2.1 s.2.2.2.1 s.2.2.2.2.1 s.2.2.2.2.2 hI (fun b1 b2 b3 b4 b5 b6 h9 hm => hk (b1, b2, b3, b4, b5, b6) h9 hm)) (a1, a2, a3, a4, a5, a6) h
theorem lp7 {A1 A2 A3 A4 A5 A6 A7 : Type} (W : Nat → A1 → A2 → A3 → A4 → A5 → A6 → A7 → Prop) (I : A1 → A2 → A3 → A4 → A5 → A6 → A7 → Prop) (μ : A1 → A2 → A3 → A4 → A5 → A6 → A7 → Nat) (hs : ∀ (n : Nat) (a1 : A1) (a2 : A2) (a3 : A3) (a4 : A4) (a5 : A5) (a6 : A6) (a7 : A7), I a1 a2 a3 a4 a5 a6 a7 → (∀ (b1 : A1) (b2 : A2) (b3 : A3) (b4 : A4) (b5 : A5) (b6 : A6) (b7 : A7), I b1 b2 b3 b4 b5 b6 b7 → μ b1 b2 b3 b4 b5 b6 b7 < μ a1 a2 a3 a4 a5 a6 a7 → W n b1 b2 b3 b4 b5 b6 b7) → W (n + 1) a1 a2 a3 a4 a5 a6 a7) (a1 : A1) (a2 : A2) (a3 : A3) (a4 : A4) (a5 : A5) (a6 : A6) (a7 : A7) (h : I a1 a2 a3 a4 a5 a6 a7) : ∃ n, W n a1 a2 a3 a4 a5 a6 a7 :=
  loop_m (σ := A1 × A2 × A3 × A4 × A5 × A6 × A7) (fun n s => W n s.1 s.2.1 s.2.2.1 s.2.2.2.1 s.2.2.2.2.1 s.2.2.2.2.2.1 s.2.2.2.2.2.2) (fun s => I s.1 s.2.1 s.2.2.1 s.2.2.2.1 s.2.2.2.2.1 s.2.2.2.2.2.1 s.2.2.2.2.2.2) (fun s => μ s.1 s.2.1 s.2.2.1 s.2.2.2.1 s.2.2.2.2.1 s.2.2.2.2.2.1 s.2.2.2.2.2.2) (fun n s hI hk => hs n s.1 s.2.1 s.2.2.1 s.2.2.2.1 s.2.2.2.2.1 s.2.2.2.2.2.1 s.2.2.2.2.2.2 hI (fun b1 b2 b3 b4 b5 b6 b7 h9 hm => hk (b1, b2, b3, b4, b5, b6, b7) h9 hm)) (a1, a2, a3, a4, a5, a6, a7) h
theorem lp8 {A1 A2 A3 A4 A5 A6 A7 A8 : Type} (W : Nat → A1 → A2 → A3 → A4 → A5 → A6 → A7 → A8 → Prop) (I : A1 → A2 → A3 → A4 → A5 → A6 → A7 → A8 → Prop) (μ : A1 → A2 → A3 → A4 → A5 → A6 → A7 → A8 → Nat) (hs : ∀ (n : Nat) (a1 : A1) (a2 : A2) (a3 : A3) (a4 : A4) (a5 : A5) (a6 : A6) (a7 : A7) (a8 : A8), I a1 a2 a3 a4 a5 a6 a7 a8 → (∀ (b1 : A1) (b2 : A2) (b3 : A3) (b4 : A4) (b5 : A5) (b6 : A6) (b7 : A7) (b8 : A8), I b1 b2 b3 b4 b5 b6 b7 b8 → μ b1 b2 b3 b4 b5 b6 b7 b8 < μ a1 a2 a3 a4 a5 a6 a7 a8 → W n b1 b2 b3 b4 b5 b6 b7 b8) → W (n + 1) a1 a2 a3 a4 a5 a6 a7 a8) (a1 : A1) (a2 : A2) (a3 : A3) (a4 : A4) (a5 : A5) (a6 : A6) (a7 : A7) (a8 : A8) (h : I a1 a2 a3 a4 a5 a6 a7 a8) : ∃ n, W n a1 a2 a3 a4 a5 a6 a7 a8 :=
  loop_m (σ := A1 × A2 × A3 × A4 × A5 × A6 × A7 × A8) (fun n s => W n s.1 s.2.1 s.2.2.1 s.2.2.2.1 s.2.2.2.2.1 s.2.2.2.2.2.1 s.2.2.2.2.2.2.1 s.2.2.2.2.2.2.2) (fun s => I s.1 s.2.1 s.2.2.1 s.2.2.2.1 s.2.2.2.2.1 s.2.2.2.2.2.1 s.2.2.2.2.2.2.1 s.2.2.2.2.2.2.2) (fun s => μ s.1 s.2.1 s.2.2.1 s.2.2.2.1 s.2.2.2.2.1 s.2.2.2.2.2.1 s.2.2.2.2.2.2.1 s.2.2.2.2.2.2.2) (fun n s hI hk => hs n s.1 s.2.1 s.2.2.1 s.2.2.2.1 s.2.2.2.2.1 s.2.2.2.2.2.1 s.2.2.2.2.2.2.1 s.2.2.2.2.2.2.2 hI (fun b1 b2 b3 b4 b5 b6 b7 b8 h9 hm => hk (b1, b2, b3, b4, b5, b6, b7, b8) h9 hm)) (a1, a2, a3, a4, a5, a6, a7, a8) h
theorem lp9 {A1 A2 A3 A4 A5 A6 A7 A8 A9 : Type} (W : Nat → A1 → A2 → A3 → A4 → A5 → A6 → A7 → A8 → A9 → Prop) (I : A1 → A2 → A3 → A4 → A5 → A6 → A7 → A8 → A9 → Prop) (μ : A1 → A2 → A3 → A4 → A5 → A6 → A7 → A8 → A9 → Nat) (hs : ∀ (n : Nat) (a1 : A1) (a2 : A2) (a3 : A3) (a4 : A4) (a5 : A5) (a6 : A6) (a7 : A7) (a8 : A8) (a9 : A9), I a1 a2 a3 a4 a5 a6 a7 a8 a9 → (∀ (b1 : A1) (b2 : A2) (b3 : A3) (b4 : A4) (b5 : A5) (b6 : A6) (b7 : A7) (b8 : A8) (b9 : A9), I b1 b2 b3 b4 b5 b6 b7 b8 b9 → μ b1 b2 b3 b4 b5 b6 b7 b8 b9 < μ a1 a2 a3 a4 a5 a6 a7 a8 a9 → W n b1 b2 b3 b4 b5 b6 b7 b8 b9) → W (n + 1) a1 a2 a3 a4 a5 a6 a7 a8 a9) (a1 : A1) (a2 : A2) (a3 : A3) (a4 : A4) (a5 : A5) (a6 : A6) (a7 : A7) (a8 : A8) (a9 : A9) (h : I a1 a2 a3 a4 a5 a6 a7 a8 a9) : ∃ n, W n a1 a2 a3 a4 a5 a6 a7 a8 a9 :=
  loop_m (σ := A1 × A2 × A3 × A4 × A5 × A6 × A7 × A8 × A9) (fun n s => W n s.1 s.2.1 s.2.2.1 s.2.2.2.1 s.2.2.2.2.1 s.2.2.2.2.2.1 s.2.2.2.2.2.2.1 s.2.2.2.2.2.2.2.1 s.2.2.2.2.2.2.2.2) (fun s => I s.1 s.2.1 s.2.2.1 s.2.2.2.1 s.2.2.2.2.1 s.2.2.2.2.2.1 s.2.2.2.2.2.2.1 s.2.2.2.2.2.2.2.1 s.2.2.2.2.2.2.2.2) (fun s => μ s.1 s.2.1 s.2.2.1 s.2.2.2.1 s.2.2.2.2.1 s.2.2.2.2.2.1 s.2.2.2.2.2.2.1 s.2.2.2.2.2.2.2.1 s.2.2.2.2.2.2.2.2) (fun n s hI hk => hs n s.1 s.2.1 s.2.2.1 s.2.2.2.1 s.2.2.2.2.1 s.2.2.2.2.2.1 s.2.2.2.2.2.2.1 s.2.2.2.2.2.2.2.1 s.2.2.2.2.2.2.2.2 hI (fun b1 b2 b3 b4 b5 b6 b7 b8 b9 h9 hm => hk (b1, b2, b3, b4, b5, b6, b7, b8, b9) h9 hm)) (a1, a2, a3, a4, a5, a6, a7, a8, a9) h
theorem lp10 {A1 A2 A3 A4 A5 A6 A7 A8 A9 A10 : Type} (W : Nat → A1 → A2 → A3 → A4 → A5 → A6 → A7 → A8 → A9 → A10 → Prop) (I : A1 → A2 → A3 → A4 → A5 → A6 → A7 → A8 → A9 → A10 → Prop) (μ : A1 → A2 → A3 → A4 → A5 → A6 → A7 → A8 → A9 → A10 → Nat) (hs : ∀ (n : Nat) (a1 : A1) (a2 : A2) (a3 : A3) (a4 : A4) (a5 : A5) (a6 : A6) (a7 : A7) (a8 : A8) (a9 : A9) (a10 : A10), I a1 a2 a3 a4 a5 a6 a7 a8 a9 a10 → (∀ (b1 : A1) (b2 : A2) (b3 : A3) (b4 : A4) (b5 : A5) (b6 : A6) (b7 : A7) (b8 : A8) (b9 : A9) (b10 : A10), I b1 b2 b3 b4 b5 b6 b7 b8 b9 b10 → μ b1 b2 b3 b4 b5 b6 b7 b8 b9 b10 < μ a1 a2 a3 a4 a5 a6 a7 a8 a9 a10 → W n b1 b2 b3 b4 b5 b6 b7 b8 b9 b10) → W (n + 1) a1 a2 a3 a4 a5 a6 a7 a8 a9 a10) (a1 : A1) (a2 : A2) (a3 : A3) (a4 : A4) (a5 : A5) (a6 : A6) (a7 : A7) (a8 : A8) (a9 : A9) (a10 : A10) (h : I a1 a2 a3 a4 a5 a6 a7 a8 a9 a10) : ∃ n, W n a1 a2 a3 a4 a5 a6 a7 a8 a9 a10 :=
  loop_m (σ := A1 × A2 × A3 × A4 × A5 × A6 × A7 × A8 × A9 × A10) (fun n s => W n s.1 s.2.1 s.2.2.1 s.2.2.2.1 s.2.2.2.2.1 s.2.2.2.2.2.1 s.2.2.2.2.2.2.1 s.2.2.2.2.2.2.2.1 s.2.2.2.2.2.2.2.2.1 s.2.2.2.2.2.2.2.2.2) (fun s => I s.1 s.2.1 s.2.2.1 s.2.2.2.1 s.2.2.2.2.1 s.2.2.2.2.2.1 s.2.2.2.2.2.2.1 s.2.2.2.2.2.2.2.1 s.2.2.2.2.2.2.2.2.1 s.2.2.2.2.2.2.2.2.2) (fun s => μ s.1 s.2.1 s.2.2.1 s.2.2.2.1 s.2.2.2.2.1 s.2.2.2.2.2.1 s.2.2.2.2.2.2.1 s.2.2.2.2.2.2.2.1 s.2.2.2.2.2.2.2.2.1 s.2.2.2.2.2.2.2.2.2) (fun n s hI hk => hs n s.1 s.2.1 s.2.2.1 s.2.2.2.1 s.2.2.2.2.1 s.2.2.2.2.2.1 s.2.2.2.2.2.2.1 s.2.2.2.2.2.2.2.1 s.2.2.2.2.2.2.2.2.1 s.2.2.2.2.2.2.2.2.2 hI (fun b1 b2 b3 b4 b5 b6 b7 b8 b9 b10 h9 hm => hk (b1, b2, b3, b4, b5, b6, b7, b8, b9, b10) h9 hm)) (a1, a2, a3, a4, a5, a6, a7, a8, a9, a10) h
theorem lp11 {A1 A2 A3 A4 A5 A6 A7 A8 A9 A10 A11 : Type} (W : Nat → A1 → A2 → A3 → A4 → A5 → A6 → A7 → A8 → A9 → A10 → A11 → Prop) (I : A1 → A2 → A3 → A4 → A5 → A6 → A7 → A8 → A9 → A10 → A11 → Prop) (μ : A1 → A2 → A3 → A4 → A5 → A6 → A7 → A8 → A9 → A10 → A11 → Nat) (hs : ∀ (n : Nat) (a1 : A1) (a2 : A2) (a3 : A3) (a4 : A4) (a5 : A5) (a6 : A6) (a7 : A7) (a8 : A8) (a9 : A9) (a10 : A10) (a11 : A11), I a1 a2 a3 a4 a5 a6 a7 a8 a9 a10 a11 → (∀ (b1 : A1) (b2 : A2) (b3 : A3) (b4 : A4) (b5 : A5) (b6 : A6) (b7 : A7) (b8 : A8) (b9 : A9) (b10 : A10) (b11 : A11), I b1 b2 b3 b4 b5 b6 b7 b8 b9 b10 b11 → μ b1 b2 b3 b4 b5 b6 b7 b8 b9 b10 b11 < μ a1 a2 a3 a4 a5 a6 a7 a8 a9 a10 a11 → W n b1 b2 b3 b4 b5 b6 b7 b8 b9 b10 b11) → W (n + 1) a1 a2 a3 a4 a5 a6 a7 a8 a9 a10 a11) (a1 : A1) (a2 : A2) (a3 : A3) (a4 : A4) (a5 : A5) (a6 : A6) (a7 : A7) (a8 : A8) (a9 : A9) (a10 : A10) (a11 : A11) (h : I a1 a2 a3 a4 a5 a6 a7 a8 a9 a10 a11) : ∃ n, W n a1 a2 a3 a4 a5 a6 a7 a8 a9 a10 a11 :=
  loop_m (σ := A1 × A2 × A3 × A4 × A5 × A6 × A7 × A8 × A9 × A10 × A11) (fun n s => W n s.1 s.2.1 s.2.2.1 s.2.2.2.1 s.2.2.2.2.1 s.2.2.2.2.2.1 s.2.2.2.2.2.2.1 s.2.2.2.2.2.2.2.1 s.2.2.2.2.2.2.2.2.1 s.2.2.2.2.2.2.2.2.2.1 s.2.2.2.2.2.2.2.2.2.2) (fun s => I s.1 s.2.1 s.2.2.1 s.2.2.2.1 s.2.2.2.2.1 s.2.2.2.2.2.1 s.2.2.2.2.2.2.1 s.2.2.2.2.2.2.2.1 s.2.2.2.2.2.2.2.2.1 s.2.2.2.2.2.2.2.2.2.1 s.2.2.2.2.2.2.2.2.2.2) (fun s => μ s.1 s.2.1 s.2.2.1 s.2.2.2.1 s.2.2.2.2.1 s.2.2.2.2.2.1 s.2.2.2.2.2.2.1 s.2.2.2.2.2.2.2.1 s.2.2.2.2.2.2.2.2.1 s.2.2.2.2.2.2.2.2.2.1 s.2.2.2.2.2.2.2.2.2.2) (fun n s hI hk => hs n s.1 s.2.1 s.2.2.1 s.2.2.2.1 s.2.2.2.2.1 s.2.2.2.2.2.1 s.2.2.2.2.2.2.1 s.2.2.2.2.2.2.2.1 s.2.2.2.2.2.2.2.2.1 s.2.2.2.2.2.2.2.2.2.1 s.2.2.2.2.2.2.2.2.2.2 hI (fun b1 b2 b3 b4 b5 b6 b7 b8 b9 b10 b11 h9 hm => hk (b1, b2, b3, b4, b5, b6, b7, b8, b9, b10, b11) h9 hm)) (a1, a2, a3, a4, a5, a6, a7, a8, a9, a10, a11) h
theorem lp12 {A1 A2 A3 A4 A5 A6 A7 A8 A9 A10 A11 A12 : Type} (W : Nat → A1 → A2 → A3 → A4 → A5 → A6 → A7 → A8 → A9 → A10 → A11 → A12 → Prop) (I : A1 → A2 → A3 → A4 → A5 → A6 → A7 → A8 → A9 → A10 → A11 → A12 → Prop) (μ : A1 → A2 → A3 → A4 → A5 → A6 → A7 → A8 → A9 → A10 → A11 → A12 → Nat) (hs : ∀ (n : Nat) (a1 : A1) (a2 : A2) (a3 : A3) (a4 : A4) (a5 : A5) (a6 : A6) (a7 : A7) (a8 : A8) (a9 : A9) (a10 : A10) (a11 : A11) (a12 : A12), I a1 a2 a3 a4 a5 a6 a7 a8 a9 a10 a11 a12 → (∀ (b1 : A1) (b2 : A2) (b3 : A3) (b4 : A4) (b5 : A5) (b6 : A6) (b7 : A7) (b8 : A8) (b9 : A9) (b10 : A10) (b11 : A11) (b12 : A12), I b1 b2 b3 b4 b5 b6 b7 b8 b9 b10 b11 b12 → μ b1 b2 b3 b4 b5 b6 b7 b8 b9 b10 b11 b12 < μ a1 a2 a3 a4 a5 a6 a7 a8 a9 a10 a11 a12 → W n b1 b2 b3 b4 b5 b6 b7 b8 b9 b10 b11 b12) → W (n + 1) a1 a2 a3 a4 a5 a6 a7 a8 a9 a10 a11 a12) (a1 : A1) (a2 : A2) (a3 : A3) (a4 : A4) (a5 : A5) (a6 : A6) (a7 : A7) (a8 : A8) (a9 : A9) (a10 : A10) (a11 : A11) (a12 : A12) (h : I a1 a2 a3 a4 a5 a6 a7 a8 a9 a10 a11 a12) : ∃ n, W n a1 a2 a3 a4 a5 a6 a7 a8 a9 a10 a11 a12 :=
  loop_m (σ := A1 × A2 × A3 × A4 × A5 × A6 × A7 × A8 × A9 × A10 × A11 × A12) (fun n s => W n s.1 s.2.1 s.2.2.1 s.2.2.2.1 s.2.2.2.2.1 s.2.2.2.2.2.1 s.2.2.2.2.2.2.1 s.2.2.2.2.2.2.2.1 s.2.2.2.2.2.2.2.2.1 s.2.2.2.2.2.2.2.2.2.1 s.2.2.2.2.2.2.2.2.2.2.1 s.2.2.2.2.2.2.2.2.2.2.2) (fun s => I s.1 s.2.1 s.2.2.1 s.2.2.2.1 s.2.2.2.2.1 s.2.2.2.2.2.1 s.2.2.2.2.2.2.1 s.2.2.2.2.2.2.2.1 s.2.2.2.2.2.2.2.2.1 s.2.2.2.2.2.2.2.2.2.1 s.2.2.2.2.2.2.2.2.2.2.1 s.2.2.2.2.2.2.2.2.2.2.2) (fun s => μ s.1 s.2.1 s.2.2.1 s.2.2.2.1 s.2.2.2.2.1 s.2.2.2.2.2.1 s.2.2.2.2.2.2.1 s.2.2.2.2.2.2.2.1 s.2.2.2.2.2.2.2.2.1 s.2.2.2.2.2.2.2.2.2.1 s.2.2.2.2.2.2.2.2.2.2.1 s.2.2.2.2.2.2.2.2.2.2.2) (fun n s hI hk => hs n s.1 s.2.1 s.2.2.1 s.2.2.2.1 s.2.2.2.2.1 s.2.2.2.2.2.1 s.2.2.2.2.2.2.1 s.2.2.2.2.2.2.2.1 s.2.2.2.2.2.2.2.2.1 s.2.2.2.2.2.2.2.2.2.1 s.2.2.2.2.2.2.2.2.2.2.1 s.2.2.2.2.2.2.2.2.2.2.2 hI (fun b1 b2 b3 b4 b5 b6 b7 b8 b9 b10 b11 b12 h9 hm => hk (b1, b2, b3, b4, b5, b6, b7, b8, b9, b10, b11, b12) h9 hm)) (a1, a2, a3, a4, a5, a6, a7, a8, a9, a10, a11, a12) h
theorem lp13 {A1 A2 A3 A4 A5 A6 A7 A8 A9 A10 A11 A12 A13 : Type} (W : Nat → A1 → A2 → A3 → A4 → A5 → A6 → A7 → A8 → A9 → A10 → A11 → A12 → A13 → Prop) (I : A1 → A2 → A3 → A4 → A5 → A6 → A7 → A8 → A9 → A10 → A11 → A12 → A13 → Prop) (μ : A1 → A2 → A3 → A4 → A5 → A6 → A7 → A8 → A9 → A10 → A11 → A12 → A13 → Nat) (hs : ∀ (n : Nat) (a1 : A1) (a2 : A2) (a3 : A3) (a4 : A4) (a5 : A5) (a6 : A6) (a7 : A7) (a8 : A8) (a9 : A9) (a10 : A10) (a11 : A11) (a12 : A12) (a13 : A13), I a1 a2 a3 a4 a5 a6 a7 a8 a9 a10 a11 a12 a13 → (∀ (b1 : A1) (b2 : A2) (b3 : A3) (b4 : A4) (b5 : A5) (b6 : A6) (b7 : A7) (b8 : A8) (b9 : A9) (b10 : A10) (b11 : A11) (b12 : A12) (b13 : A13), I b1 b2 b3 b4 b5 b6 b7 b8 b9 b10 b11 b12 b13 → μ b1 b2 b3 b4 b5 b6 b7 b8 b9 b10 b11 b12 b13 < μ a1 a2 a3 a4 a5 a6 a7 a8 a9 a10 a11 a12 a13 → W n b1 b2 b3 b4 b5 b6 b7 b8 b9 b10 b11 b12 b13) → W (n + 1) a1 a2 a3 a4 a5 a6 a7 a8 a9 a10 a11 a12 a13) (a1 : A1) (a2 : A2) (a3 : A3) (a4 : A4) (a5 : A5) (a6 : A6) (a7 : A7) (a8 : A8) (a9 : A9) (a10 : A10) (a11 : A11) (a12 : A12) (a13 : A13) (h : I a1 a2 a3 a4 a5 a6 a7 a8 a9 a10 a11 a12 a13) : ∃ n, W n a1 a2 a3 a4 a5 a6 a7 a8 a9 a10 a11 a12 a13 :=
  loop_m (σ := A1 × A2 × A3 × A4 × A5 × A6 × A7 × A8 × A9 × A10 × A11 × A12 × A13) (fun n s => W n s.1 s.2.1 s.2.2.1 s.2.2.2.1 s.2.2.2.2.1 s.2.2.2.2.2.1 s.2.2.2.2.2.2.1 s.2.2.2.2.2.2.2.1 s.2.2.2.2.2.2.2.2.1 s.2.2.2.2.2.2.2.2.2.1 s.2.2.2.2.2.2.2.2.2.2.1 s.2.2.2.2.2.2.2.2.2.2.2.1 s.2.2.2.2.2.2.2.2.2.2.2.2) (fun s => I s.1 s.2.1 s.2.2.1 s.2.2.2.1 s.2.2.2.2.1 s.2.2.2.2.2.1 s.2.2.2.2.2.2.1 s.2.2.2.2.2.2.2.1 s.2.2.2.2.2.2.2.2.1 s.2.2.2.2.2.2.2.2.2.1 s.2.2.2.2.2.2.2.2.2.2.1 s.2.2.2.2.2.2.2.2.2.2.2.1 s.2.2.2.2.2.2.2.2.2.2.2.2) (fun s => μ s.1 s.2.1 s.2.2.1 s.2.2.2.1 s.2.2.2.2.1 s.2.2.2.2.2.1 s.2.2.2.2.2.2.1 s.2.2.2.2.2.2.2.1 s.2.2.2.2.2.2.2.2.1 s.2.2.2.2.2.2.2.2.2.1 s.2.2.2.2.2.2.2.2.2.2.1 s.2.2.2.2.2.2.2.2.2.2.2.1 s.2.2.2.2.2.2.2.2.2.2.2.2) (fun n s hI hk => hs n s.1 s.2.1 s.2.2.1 s.2.2.2.1 s.2.2.2.2.1 s.2.2.2.2.2.1 s.2.2.2.2.2.2.1 s.2.2.2.2.2.2.2.1 s.2.2.2.2.2.2.2.2.1 s.2.2.2.2.2.2.2.2.2.1 s.2.2.2.2.2.2.2.2.2.2.1 s.2.2.2.2.2.2.2.2.2.2.2.1 s.2.2.2.2.2.2.2.2.2.2.2.2 hI (fun b1 b2 b3 b4 b5 b6 b7 b8 b9 b10 b11 b12 b13 h9 hm => hk (b1, b2, b3, b4, b5, b6, b7, b8, b9, b10, b11, b12, b13) h9 hm)) (a1, a2, a3, a4, a5, a6, a7, a8, a9, a10, a11, a12, a13) h
theorem lp14 {A1 A2 A3 A4 A5 A6 A7 A8 A9 A10 A11 A12 A13 A14 : Type} (W : Nat → A1 → A2 → A3 → A4 → A5 → A6 → A7 → A8 → A9 → A10 → A11 → A12 → A13 → A14 → Prop) (I : A1 → A2 → A3 → A4 → A5 → A6 → A7 → A8 → A9 → A10 → A11 → A12 → A13 → A14 → Prop) (μ : A1 → A2 → A3 → A4 → A5 → A6 → A7 → A8 → A9 → A10 → A11 → A12 → A13 → A14 → Nat) (hs : ∀ (n : Nat) (a1 : A1) (a2 : A2) (a3 : A3) (a4 : A4) (a5 : A5) (a6 : A6) (a7 : A7) (a8 : A8) (a9 : A9) (a10 : A10) (a11 : A11) (a12 : A12) (a13 : A13) (a14 : A14), I a1 a2 a3 a4 a5 a6 a7 a8 a9 a10 a11 a12 a13 a14 → (∀ (b1 : A1) (b2 : A2) (b3 : A3) (b4 : A4) (b5 : A5) (b6 : A6) (b7 : A7) (b8 : A8) (b9 : A9) (b10 : A10) (b11 : A11) (b12 : A12) (b13 : A13) (b14 : A14), I b1 b2 b3 b4 b5 b6 b7 b8 b9 b10 b11 b12 b13 b14 → μ b1 b2 b3 b4 b5 b6 b7 b8 b9 b10 b11 b12 b13 b14 < μ a1 a2 a3 a4 a5 a6 a7 a8 a9 a10 a11 a12 a13 a14 → W n b1 b2 b3 b4 b5 b6 b7 b8 b9 b10 b11 b12 b13 b14) → W (n + 1) a1 a2 a3 a4 a5 a6 a7 a8 a9 a10 a11 a12 a13 a14) (a1 : A1) (a2 : A2) (a3 : A3) (a4 : A4) (a5 : A5) (a6 : A6) (a7 : A7) (a8 : A8) (a9 : A9) (a10 : A10) (a11 : A11) (a12 : A12) (a13 : A13) (a14 : A14) (h : I a1 a2 a3 a4 a5 a6 a7 a8 a9 a10 a11 a12 a13 a14) : ∃ n, W n a1 a2 a3 a4 a5 a6 a7 a8 a9 a10 a11 a12 a13 a14 :=
  loop_m (σ := A1 × A2 × A3 × A4 × A5 × A6 × A7 × A8 × A9 × A10 × A11 × A12 × A13 × A14) (fun n s => W n s.1 s.2.1 s.2.2.1 s.2.2.2.1 s.2.2.2.2.1 s.2.2.2.2.2.1 s.2.2.2.2.2.2.1 s.2.2.2.2.2.2.2.1 s.2.2.2.2.2.2.2.2.1 s.2.2.2.2.2.2.2.2.2.1 s.2.2.2.2.2.2.2.2.2.2.1 s.2.2.2.2.2.2.2.2.2.2.2.1 s.2.2.2.2.2.2.2.2.2.2.2.2.1 s.2.2.2.2.2.2.2.2.2.2.2.2.2) (fun s => I s.1 s.2.1 s.2.2.1 s.2.2.2.1 s.2.2.2.2.1 s.2.2.2.2.2.1 s.2.2.2.2.2.2.1 s.2.2.2.2.2.2.2.1 s.2.2.2.2.2.2.2.2.1 s.2.2.2.2.2.2.2.2.2.1 s.2.2.2.2.2.2.2.2.2.2.1 s.2.2.2.2.2.2.2.2.2.2.2.1 s.2.2.2.2.2.2.2.2.2.2.2.2.1 s.2.2.2.2.2.2.2.2.2.2.2.2.2) (fun s => μ s.1 s.2.1 s.2.2.1 s.2.2.2.1 s.2.2.2.2.1 s.2.2.2.2.2.1 s.2.2.2.2.2.2.1 s.2.2.2.2.2.2.2.1 s.2.2.2.2.2.2.2.2.1 s.2.2.2.2.2.2.2.2.2.1 s.2.2.2.2.2.2.2.2.2.2.1 s.2.2.2.2.2.2.2.2.2.2.2.1 s.2.2.2.2.2.2.2.2.2.2.2.2.1 s.2.2.2.2.2.2.2.2.2.2.2.2.2) (fun n s hI hk => hs n s.1 s.2.1 s.2.2.1 s.2.2.2.1 s.2.2.2.2.1 s.2.2.2.2.2.1 s.2.2.2.2.2.2.1 s.2.2.2.2.2.2.2.1 s.2.2.2.2.2.2.2.2.1 s.2.2.2.2.2.2.2.2.2.1 s.2.2.2.2.2.2.2.2.2.2.1 s.2.2.2.2.2.2.2.2.2.2.2.1 s.2.2.2.2.2.2.2.2.2.2.2.2.1 s.2.2.2.2.2.2.2.2.2.2.2.2.2 hI (fun b1 b2 b3 b4 b5 b6 b7 b8 b9 b10 b11 b12 b13 b14 h9 hm => hk (b1, b2, b3, b4, b5, b6, b7, b8, b9, b10, b11, b12, b13, b14) h9 hm)) (a1, a2, a3, a4, a5, a6, a7, a8, a9, a10, a11, a12, a13, a14) h
theorem lp15 {A1 A2 A3 A4 A5 A6 A7 A8 A9 A10 A11 A12 A13 A14 A15 : Type} (W : Nat → A1 → A2 → A3 → A4 → A5 → A6 → A7 → A8 → A9 → A10 → A11 → A12 → A13 → A14 → A15 → Prop) (I : A1 → A2 → A3 → A4 → A5 → A6 → A7 → A8 → A9 → A10 → A11 → A12 → A13 → A14 → A15 → Prop) (μ : A1 → A2 → A3 → A4 → A5 → A6 → A7 → A8 → A9 → A10 → A11 → A12 → A13 → A14 → A15 → Nat) (hs : ∀ (n : Nat) (a1 : A1) (a2 : A2) (a3 : A3) (a4 : A4) (a5 : A5) (a6 : A6) (a7 : A7) (a8 : A8) (a9 : A9) (a10 : A10) (a11 : A11) (a12 : A12) (a13 : A13) (a14 : A14) (a15 : A15), I a1 a2 a3 a4 a5 a6 a7 a8 a9 a10 a11 a12 a13 a14 a15 → (∀ (b1 : A1) (b2 : A2) (b3 : A3) (b4 : A4) (b5 : A5) (b6 : A6) (b7 : A7) (b8 : A8) (b9 : A9) (b10 : A10) (b11 : A11) (b12 : A12) (b13 : A13) (b14 : A14) (b15 : A15), I b1 b2 b3 b4 b5 b6 b7 b8 b9 b10 b11 b12 b13 b14 b15 → μ b1 b2 b3 b4 b5 b6 b7 b8 b9 b10 b11 b12 b13 b14 b15 < μ a1 a2 a3 a4 a5 a6 a7 a8 a9 a10 a11 a12 a13 a14 a15 → W n b1 b2 b3 b4 b5 b6 b7 b8 b9 b10 b11 b12 b13 b14 b15) → W (n + 1) a1 a2 a3 a4 a5 a6 a7 a8 a9 a10 a11 a12 a13 a14 a15) (a1 : A1) (a2 : A2) (a3 : A3) (a4 : A4) (a5 : A5) (a6 : A6) (a7 : A7) (a8 : A8) (a9 : A9) (a10 : A10) (a11 : A11) (a12 : A12) (a13 : A13) (a14 : A14) (a15 : A15) (h : I a1 a2 a3 a4 a5 a6 a7 a8 a9 a10 a11 a12 a13 a14 a15) : ∃ n, W n a1 a2 a3 a4 a5 a6 a7 a8 a9 a10 a11 a12 a13 a14 a15 :=
  loop_m (σ := A1 × A2 × A3 × A4 × A5 × A6 × A7 × A8 × A9 × A10 × A11 × A12 × A13 × A14 × A15) (fun n s => W n s.1 s.2.1 s.2.2.1 s.2.2.2.1 s.2.2.2.2.1 s.2.2.2.2.2.1 s.2.2.2.2.2.2.1 s.2.2.2.2.2.2.2.1 s.2.2.2.2.2.2.2.2.1 s.2.2.2.2.2.2.2.2.2.1 s.2.2.2.2.2.2.2.2.2.2.1 s.2.2.2.2.2.2.2.2.2.2.2.1 s.2.2.2.2.2.2.2.2.2.2.2.2.1 s.2.2.2.2.2.2.2.2.2.2.2.2.2.1 s.2.2.2.2.2.2.2.2.2.2.2.2.2.2) (fun s => I s.1 s.2.1 s.2.2.1 s.2.2.2.1 s.2.2.2.2.1 s.2.2.2.2.2.1 s.2.2.2.2.2.2.1 s.2.2.2.2.2.2.2.1 s.2.2.2.2.2.2.2.2.1 s.2.2.2.2.2.2.2.2.2.1 s.2.2.2.2.2.2.2.2.2.2.1 s.2.2.2.2.2.2.2.2.2.2.2.1 s.2.2.2.2.2.2.2.2.2.2.2.2.1 s.2.2.2.2.2.2.2.2.2.2.2.2.2.1 s.2.2.2.2.2.2.2.2.2.2.2.2.2.2) (fun s => μ s.1 s.2.1 s.2.2.1 s.2.2.2.1 s.2.2.2.2.1 s.2.2.2.2.2.1 s.2.2.2.2.2.2.1 s.2.2.2.2.2.2.2.1 s.2.2.2.2.2.2.2.2.1 s.2.2.2.2.2.2.2.2.2.1 s.2.2.2.2.2.2.2.2.2.2.1 s.2.2.2.2.2.2.2.2.2.2.2.1 s.2.2.2.2.2.2.2.2.2.2.2.2.1 s.2.2.2.2.2.2.2.2.2.2.2.2.2.1 s.2.2.2.2.2.2.2.2.2.2.2.2.2.2) (fun n s hI hk => hs n s.1 s.2.1 s.2.2.1 s.2.2.2.1 s.2.2.2.2.1 s.2.2.2.2.2.1 s.2.2.2.2.2.2.1 s.2.2.2.2.2.2.2.1 s.2.2.2.2.2.2.2.2.1 s.2.2.2.2.2.2.2.2.2.1 s.2.2.2.2.2.2.2.2.2.2.1 s.2.2.2.2.2.2.2.2.2.2.2.1 s.2.2.2.2.2.2.2.2.2.2.2.2.1 s.2.2.2.2.2.2.2.2.2.2.2.2.2.1 s.2.2.2.2.2.2.2.2.2.2.2.2.2.2 hI (fun b1 b2 b3 b4 b5 b6 b7 b8 b9 b10 b11 b12 b13 b14 b15 h9 hm => hk (b1, b2, b3, b4, b5, b6, b7, b8, b9, b10, b11, b12, b13, b14, b15) h9 hm)) (a1, a2, a3, a4, a5, a6, a7, a8, a9, a10, a11, a12, a13, a14, a15) h
theorem lp16 {A1 A2 A3 A4 A5 A6 A7 A8 A9 A10 A11 A12 A13 A14 A15 A16 : Type} (W : Nat → A1 → A2 → A3 → A4 → A5 → A6 → A7 → A8 → A9 → A10 → A11 → A12 → A13 → A14 → A15 → A16 → Prop) (I : A1 → A2 → A3 → A4 → A5 → A6 → A7 → A8 → A9 → A10 → A11 → A12 → A13 → A14 → A15 → A16 → Prop) (μ : A1 → A2 → A3 → A4 → A5 → A6 → A7 → A8 → A9 → A10 → A11 → A12 → A13 → A14 → A15 → A16 → Nat) (hs : ∀ (n : Nat) (a1 : A1) (a2 : A2) (a3 : A3) (a4 : A4) (a5 : A5) (a6 : A6) (a7 : A7) (a8 : A8) (a9 : A9) (a10 : A10) (a11 : A11) (a12 : A12) (a13 : A13) (a14 : A14) (a15 : A15) (a16 : A16), I a1 a2 a3 a4 a5 a6 a7 a8 a9 a10 a11 a12 a13 a14 a15 a16 → (∀ (b1 : A1) (b2 : A2) (b3 : A3) (b4 : A4) (b5 : A5) (b6 : A6) (b7 : A7) (b8 : A8) (b9 : A9) (b10 : A10) (b11 : A11) (b12 : A12) (b13 : A13) (b14 : A14) (b15 : A15) (b16 : A16), I b1 b2 b3 b4 b5 b6 b7 b8 b9 b10 b11 b12 b13 b14 b15 b16 → μ b1 b2 b3 b4 b5 b6 b7 b8 b9 b10 b11 b12 b13 b14 b15 b16 < μ a1 a2 a3 a4 a5 a6 a7 a8 a9 a10 a11 a12 a13 a14 a15 a16 → W n b1 b2 b3 b4 b5 b6 b7 b8 b9 b10 b11 b12 b13 b14 b15 b16) → W (n + 1) a1 a2 a3 a4 a5 a6 a7 a8 a9 a10 a11 a12 a13 a14 a15 a16) (a1 : A1) (a2 : A2) (a3 : A3) (a4 : A4) (a5 : A5) (a6 : A6) (a7 : A7) (a8 : A8) (a9 : A9) (a10 : A10) (a11 : A11) (a12 : A12) (a13 : A13) (a14 : A14) (a15 : A15) (a16 : A16) (h : I a1 a2 a3 a4 a5 a6 a7 a8 a9 a10 a11 a12 a13 a14 a15 a16) : ∃ n, W n a1 a2 a3 a4 a5 a6 a7 a8 a9 a10 a11 a12 a13 a14 a15 a16 :=
  loop_m (σ := A1 × A2 × A3 × A4 × A5 × A6 × A7 × A8 × A9 × A10 × A11 × A12 × A13 × A14 × A15 × A16) (fun n s => W n s.1 s.2.1 s.2.2.1 s.2.2.2.1 s.2.2.2.2.1 s.2.2.2.2.2.1 s.2.2.2.2.2.2.1 s.2.2.2.2.2.2.2.1 s.2.2.2.2.2.2.2.2.1 s.2.2.2.2.2.2.2.2.2.1 s.2.2.2.2.2.2.2.2.2.2.1 s.2.2.2.2.2.2.2.2.2.2.2.1 s.2.2.2.2.2.2.2.2.2.2.2.2.1 s.2.2.2.2.2.2.2.2.2.2.2.2.2.1 s.2.2.2.2.2.2.2.2.2.2.2.2.2.2.1 s.2.2.2.2.2.2.2.2.2.2.2.2.2.2.2) (fun s => I s.1 s.2.1 s.2.2.1 s.2.2.2.1 s.2.2.2.2.1 s.2.2.2.2.2.1 s.2.2.2.2.2.2.1 s.2.2.2.2.2.2.2.1 s.2.2.2.2.2.2.2.2.1 s.2.2.2.2.2.2.2.2.2.1 s.2.2.2.2.2.2.2.2.2.2.1 s.2.2.2.2.2.2.2.2.2.2.2.1 s.2.2.2.2.2.2.2.2.2.2.2.2.1 s.2.2.2.2.2.2.2.2.2.2.2.2.2.1 s.2.2.2.2.2.2.2.2.2.2.2.2.2.2.1 s.2.2.2.2.2.2.2.2.2.2.2.2.2.2.2) (fun s => μ s.1 s.2.1 s.2.2.1 s.2.2.2.1 s.2.2.2.2.1 s.2.2.2.2.2.1 s.2.2.2.2.2.2.1 s.2.2.2.2.2.2.2.1 s.2.2.2.2.2.2.2.2.1 s.2.2.2.2.2.2.2.2.2.1 s.2.2.2.2.2.2.2.2.2.2.1 s.2.2.2.2.2.2.2.2.2.2.2.1 s.2.2.2.2.2.2.2.2.2.2.2.2.1 s.2.2.2.2.2.2.2.2.2.2.2.2.2.1 s.2.2.2.2.2.2.2.2.2.2.2.2.2.2.1 s.2.2.2.2.2.2.2.2.2.2.2.2.2.2.2) (fun n s hI hk => hs n s.1 s.2.1 s.2.2.1 s.2.2.2.1 s.2.2.2.2.1 s.2.2.2.2.2.1 s.2.2.2.2.2.2.1 s.2.2.2.2.2.2.2.1 s.2.2.2.2.2.2.2.2.1 s.2.2.2.2.2.2.2.2.2.1 s.2.2.2.2.2.2.2.2.2.2.1 s.2.2.2.2.2.2.2.2.2.2.2.1 s.2.2.2.2.2.2.2.2.2.2.2.2.1 s.2.2.2.2.2.2.2.2.2.2.2.2.2.1 s.2.2.2.2.2.2.2.2.2.2.2.2.2.2.1 s.2.2.2.2.2.2.2.2.2.2.2.2.2.2.2 hI (fun b1 b2 b3 b4 b5 b6 b7 b8 b9 b10 b11 b12 b13 b14 b15 b16 h9 hm => hk (b1, b2, b3, b4, b5, b6, b7, b8, b9, b10, b11, b12, b13, b14, b15, b16) h9 hm)) (a1, a2, a3, a4, a5, a6, a7, a8, a9, a10, a11, a12, a13, a14, a15, a16) h
theorem pk_least (P : Nat → Prop) (h : ∃ k, P k) : ∃ k, P k ∧ ∀ j, j < k → ¬ P j := by
  obtain ⟨k, hk⟩ := h
  induction k using Nat.strongRecOn with
  | ind k ih =>
    by_cases e : ∃ j, j < k ∧ P j
    · obtain ⟨j, hj, pj⟩ := e
      exact ih j hj pj
    · exact ⟨k, hk, fun j hj pj => e ⟨j, hj, pj⟩⟩
theorem rp1 {ρ A1 : Type} (W : Nat → (ρ → Prop) → A1 → Prop) (ok : A1 → Prop) (μ : A1 → Nat) (val : A1 → ρ)
    (hs : ∀ (d : Nat) (post : ρ → Prop) (a1 : A1), ok a1 → post (val a1) → (∀ (post' : ρ → Prop) (b1 : A1), ok b1 → μ b1 < μ a1 → post' (val b1) → W d post' b1) → W (d + 1) post a1) :
    ∀ (d : Nat) (post : ρ → Prop) (a1 : A1), ok a1 → μ a1 < d → post (val a1) → W d post a1 := by
  intro d
  induction d with
  | zero => intro post a1 _ h; omega
  | succ d ih =>
    intro post a1 ho hm hp
    exact hs d post a1 ho hp (fun post' b1 ho' hm' hp' => ih post' b1 ho' (by omega) hp')
theorem rp2 {ρ A1 A2 : Type} (W : Nat → (ρ → Prop) → A1 → A2 → Prop) (ok : A1 → A2 → Prop) (μ : A1 → A2 → Nat) (val : A1 → A2 → ρ)
    (hs : ∀ (d : Nat) (post : ρ → Prop) (a1 : A1) (a2 : A2), ok a1 a2 → post (val a1 a2) → (∀ (post' : ρ → Prop) (b1 : A1) (b2 : A2), ok b1 b2 → μ b1 b2 < μ a1 a2 → post' (val b1 b2) → W d post' b1 b2) → W (d + 1) post a1 a2) :
    ∀ (d : Nat) (post : ρ → Prop) (a1 : A1) (a2 : A2), ok a1 a2 → μ a1 a2 < d → post (val a1 a2) → W d post a1 a2 := by
  intro d
  induction d with
  | zero => intro post a1 a2 _ h; omega
  | succ d ih =>
    intro post a1 a2 ho hm hp
    exact hs d post a1 a2 ho hp (fun post' b1 b2 ho' hm' hp' => ih post' b1 b2 ho' (by omega) hp')
theorem rp3 {ρ A1 A2 A3 : Type} (W : Nat → (ρ → Prop) → A1 → A2 → A3 → Prop) (ok : A1 → A2 → A3 → Prop) (μ : A1 → A2 → A3 → Nat) (val : A1 → A2 → A3 → ρ)
    (hs : ∀ (d : Nat) (post : ρ → Prop) (a1 : A1) (a2 : A2) (a3 : A3), ok a1 a2 a3 → post (val a1 a2 a3) → (∀ (post' : ρ → Prop) (b1 : A1) (b2 : A2) (b3 : A3), ok b1 b2 b3 → μ b1 b2 b3 < μ a1 a2 a3 → post' (val b1 b2 b3) → W d post' b1 b2 b3) → W (d + 1) post a1 a2 a3) :
    ∀ (d : Nat) (post : ρ → Prop) (a1 : A1) (a2 : A2) (a3 : A3), ok a1 a2 a3 → μ a1 a2 a3 < d → post (val a1 a2 a3) → W d post a1 a2 a3 := by
  intro d
  induction d with
  | zero => intro post a1 a2 a3 _ h; omega
  | succ d ih =>
    intro post a1 a2 a3 ho hm hp
    exact hs d post a1 a2 a3 ho hp (fun post' b1 b2 b3 ho' hm' hp' => ih post' b1 b2 b3 ho' (by omega) hp')
theorem rp4 {ρ A1 A2 A3 A4 : Type} (W : Nat → (ρ → Prop) → A1 → A2 → A3 → A4 → Prop) (ok : A1 → A2 → A3 → A4 → Prop) (μ : A1 → A2 → A3 → A4 → Nat) (val : A1 → A2 → A3 → A4 → ρ)
    (hs : ∀ (d : Nat) (post : ρ → Prop) (a1 : A1) (a2 : A2) (a3 : A3) (a4 : A4), ok a1 a2 a3 a4 → post (val a1 a2 a3 a4) → (∀ (post' : ρ → Prop) (b1 : A1) (b2 : A2) (b3 : A3) (b4 : A4), ok b1 b2 b3 b4 → μ b1 b2 b3 b4 < μ a1 a2 a3 a4 → post' (val b1 b2 b3 b4) → W d post' b1 b2 b3 b4) → W (d + 1) post a1 a2 a3 a4) :
    ∀ (d : Nat) (post : ρ → Prop) (a1 : A1) (a2 : A2) (a3 : A3) (a4 : A4), ok a1 a2 a3 a4 → μ a1 a2 a3 a4 < d → post (val a1 a2 a3 a4) → W d post a1 a2 a3 a4 := by
  intro d
  induction d with
  | zero => intro post a1 a2 a3 a4 _ h; omega
  | succ d ih =>
    intro post a1 a2 a3 a4 ho hm hp
    exact hs d post a1 a2 a3 a4 ho hp (fun post' b1 b2 b3 b4 ho' hm' hp' => ih post' b1 b2 b3 b4 ho' (by omega) hp')
theorem rp5 {ρ A1 A2 A3 A4 A5 : Type} (W : Nat → (ρ → Prop) → A1 → A2 → A3 → A4 → A5 → Prop) (ok : A1 → A2 → A3 → A4 → A5 → Prop) (μ : A1 → A2 → A3 → A4 → A5 → Nat) (val : A1 → A2 → A3 → A4 → A5 → ρ)
    (hs : ∀ (d : Nat) (post : ρ → Prop) (a1 : A1) (a2 : A2) (a3 : A3) (a4 : A4) (a5 : A5), ok a1 a2 a3 a4 a5 → post (val a1 a2 a3 a4 a5) → (∀ (post' : ρ → Prop) (b1 : A1) (b2 : A2) (b3 : A3) (b4 : A4) (b5 : A5), ok b1 b2 b3 b4 b5 → μ b1 b2 b3 b4 b5 < μ a1 a2 a3 a4 a5 → post' (val b1 b2 b3 b4 b5) → W d post' b1 b2 b3 b4 b5) → W (d + 1) post a1 a2 a3 a4 a5) :
    ∀ (d : Nat) (post : ρ → Prop) (a1 : A1) (a2 : A2) (a3 : A3) (a4 : A4) (a5 : A5), ok a1 a2 a3 a4 a5 → μ a1 a2 a3 a4 a5 < d → post (val a1 a2 a3 a4 a5) → W d post a1 a2 a3 a4 a5 := by
  intro d
  induction d with
  | zero => intro post a1 a2 a3 a4 a5 _ h; omega
  | succ d ih =>
    intro post a1 a2 a3 a4 a5 ho hm hp
    exact hs d post a1 a2 a3 a4 a5 ho hp (fun post' b1 b2 b3 b4 b5 ho' hm' hp' => ih post' b1 b2 b3 b4 b5 ho' (by omega) hp')
theorem rp6 {ρ A1 A2 A3 A4 A5 A6 : Type} (W : Nat → (ρ → Prop) → A1 → A2 → A3 → A4 → A5 → A6 → Prop) (ok : A1 → A2 → A3 → A4 → A5 → A6 → Prop) (μ : A1 → A2 → A3 → A4 → A5 → A6 → Nat) (val : A1 → A2 → A3 → A4 → A5 → A6 → ρ)
    (hs : ∀ (d : Nat) (post : ρ → Prop) (a1 : A1) (a2 : A2) (a3 : A3) (a4 : A4) (a5 : A5) (a6 : A6), ok a1 a2 a3 a4 a5 a6 → post (val a1 a2 a3 a4 a5 a6) → (∀ (post' : ρ → Prop) (b1 : A1) (b2 : A2) (b3 : A3) (b4 : A4) (b5 : A5) (b6 : A6), ok b1 b2 b3 b4 b5 b6 → μ b1 b2 b3 b4 b5 b6 < μ a1 a2 a3 a4 a5 a6 → post' (val b1 b2 b3 b4 b5 b6) → W d post' b1 b2 b3 b4 b5 b6) → W (d + 1) post a1 a2 a3 a4 a5 a6) :
    ∀ (d : Nat) (post : ρ → Prop) (a1 : A1) (a2 : A2) (a3 : A3) (a4 : A4) (a5 : A5) (a6 : A6), ok a1 a2 a3 a4 a5 a6 → μ a1 a2 a3 a4 a5 a6 < d → post (val a1 a2 a3 a4 a5 a6) → W d post a1 a2 a3 a4 a5 a6 := by
  intro d
  induction d with
  | zero => intro post a1 a2 a3 a4 a5 a6 _ h; omega
  | succ d ih =>
    intro post a1 a2 a3 a4 a5 a6 ho hm hp
    exact hs d post a1 a2 a3 a4 a5 a6 ho hp (fun post' b1 b2 b3 b4 b5 b6 ho' hm' hp' => ih post' b1 b2 b3 b4 b5 b6 ho' (by omega) hp')
theorem rec_p {σ ρ : Type} (W : Nat → (ρ → Prop) → σ → Prop) (ok : σ → Prop) (μ : σ → Nat) (val : σ → ρ)
    (hs : ∀ d s post, ok s → post (val s) → (∀ s' post', ok s' → μ s' < μ s → post' (val s') → W d post' s') → W (d + 1) post s) :
    ∀ d s post, ok s → μ s < d → post (val s) → W d post s := by
  intro d
  induction d with
  | zero => intro s post _ h; omega
  | succ d ih =>
    intro s post ho hm hp
    exact hs d s post ho hp (fun s' post' ho' hm' hp' => ih s' post' ho' (by omega) hp')
theorem rec_q {σ ρ : Type} (W : Nat → (ρ → Prop) → σ → Prop) (ok : σ → Prop) (μ : σ → Nat) (Q : σ → ρ → Prop)
    (hs : ∀ d s post, ok s → (∀ r, Q s r → post r) → (∀ s' post', ok s' → μ s' < μ s → (∀ r, Q s' r → post' r) → W d post' s') → W (d + 1) post s) :
    ∀ d s post, ok s → μ s < d → (∀ r, Q s r → post r) → W d post s := by
  intro d
  induction d with
  | zero => intro s post _ h; omega
  | succ d ih =>
    intro s post ho hm hp
    exact hs d s post ho hp (fun s' post' ho' hm' hp' => ih s' post' ho' (by omega) hp')
def bx_sum (f : Nat → Int32) : Nat → Int32
  | 0 => 0
  | n + 1 => bx_sum f n + f n
theorem ek_u {A : Prop} {B : Nat → Prop} {k N : Nat} (hk : k < N) (h : B k) : (some k = none → A) ∧ (∀ y : Nat, some k = some y → (y < N ∧ B y)) :=
  ⟨fun z => absurd z (Option.some_ne_none k), fun _ e => (by cases e; exact ⟨hk, h⟩)⟩
theorem ek_nu {A : Prop} {B : Nat → Prop} (h : A) : ((none : Option Nat) = none → A) ∧ (∀ y : Nat, (none : Option Nat) = some y → B y) :=
  ⟨fun _ => h, fun _ e => (by cases e)⟩
theorem ek_if {c d A B : Prop} (e : c ↔ d) (f : d → A) (g : ¬ d → B) : (c → A) ∧ (¬ c → B) :=
  ⟨fun z => f (e.mp z), fun z => g (fun y => z (e.mpr y))⟩
theorem ek_v {α : Sort _} {P : α → Prop} {a b : α} (e : a = b) (h : P b) : P a := e ▸ h
theorem co_some {x : Option Nat} {A : Prop} {B : Nat → Prop} (i : Nat) (h : B i) (hx : x = some i := by rfl) : (x = none → A) ∧ (∀ y : Nat, x = some y → B y) := by
  subst hx
  exact ⟨fun e => (nomatch e), fun y e => Option.some.inj e ▸ h⟩
theorem co_none {x : Option Nat} {A : Prop} {B : Nat → Prop} (h : A) (hx : x = none := by rfl) : (x = none → A) ∧ (∀ y : Nat, x = some y → B y) := by
  subst hx
  exact ⟨fun _ => h, fun y e => (nomatch e)⟩
theorem co_any {x : Option Nat} {A : Prop} {B : Nat → Prop} (hn : x = none → A) (hs : ∀ i : Nat, x = some i → B i) : (x = none → A) ∧ (∀ y : Nat, x = some y → B y) := ⟨hn, hs⟩
theorem co_2 {P : Nat → Prop} (h0 : P 0) (h1 : P 1) {i : Nat} (hi : i < 2) : P i :=
  match i, hi with
  | 0, _ => h0
  | 1, _ => h1
theorem co_3 {P : Nat → Prop} (h0 : P 0) (h1 : P 1) (h2 : P 2) {i : Nat} (hi : i < 3) : P i :=
  match i, hi with
  | 0, _ => h0
  | 1, _ => h1
  | 2, _ => h2
theorem co_4 {P : Nat → Prop} (h0 : P 0) (h1 : P 1) (h2 : P 2) (h3 : P 3) {i : Nat} (hi : i < 4) : P i :=
  match i, hi with
  | 0, _ => h0
  | 1, _ => h1
  | 2, _ => h2
  | 3, _ => h3
theorem co_dec {N : Nat} {P : Nat → Prop} [DecidablePred P] (h : (List.range N).all (fun i => decide (P i)) = true) {i : Nat} (hi : i < N) : P i := by
  have := List.all_eq_true.mp h i (List.mem_range.mpr hi)
  exact of_decide_eq_true this
theorem co_tab {α : Type} {l : List α} {d : α} {P : α → Prop} (h : ∀ a, a ∈ l → P a) {i : Nat} (hi : i < l.length) : P (l.getD i d) := by
  rw [List.getD_eq_getElem?_getD, List.getElem?_eq_getElem hi]
  exact h _ (List.getElem_mem hi)
theorem pk_mu {x : Int32} {L : Nat} (h0 : ¬ x < 0) (h : ¬ nI L ≤ x) (hL : L < 2 ^ 31) : ∃ j : Nat, j < L ∧ x = nI j ∧ x + 1 = nI (j + 1) ∧ x.toNatClampNeg = j ∧ L - (x + 1).toNatClampNeg < L - x.toNatClampNeg := by
  obtain ⟨j, hj, rfl⟩ := nI_of h0
  have hl : j < L := Nat.not_le.mp fun q => h (nI_le q hj)
  refine ⟨j, hl, rfl, nI_1 j, nI_clamp hj, ?_⟩
  rw [nI_1, nI_clamp (by omega), nI_clamp hj]
  omega
theorem op_s {α : Type} {r : Option α} {A : Prop} {B : α → Prop} {y : α} (h : r = some y) (b : B y) : (r = none → A) ∧ ∀ z, r = some z → B z :=
  ⟨fun e => (by rw [h] at e; cases e), fun z e => (by rw [h] at e; cases e; exact b)⟩
def l_holds {α : Type} (a : Nat → Option Nat) (LP : List Nat) (p : Nat → α) (c : Nat) (b : Nat → α) : Prop :=
  ∀ j, j < c → ∃ y, a j = some y ∧ y ∈ LP ∧ p y = b j
theorem l_holds_0 {α : Type} {a : Nat → Option Nat} {LP : List Nat} {p b : Nat → α} : l_holds a LP p 0 b := fun j h => absurd h (Nat.not_lt_zero j)
theorem l_in_new (LP : List Nat) (q : Nat) : q ∈ LP ++ [q] := List.mem_append.mpr (Or.inr (List.mem_singleton.mpr rfl))
def l_sum (b : Nat → Int32) : Nat → Int32
  | 0 => 0
  | k + 1 => l_sum b k + b k
theorem sb_shr0 (x : Int32) : x >>> ((0 : Int32) &&& 31) = x := by
  rw [show ((0 : Int32) &&& 31) = 0 by decide]
  simp
theorem sb_shl0 (x : Int32) : x <<< ((0 : Int32) &&& 31) = x := by
  rw [show ((0 : Int32) &&& 31) = 0 by decide]
  simp
theorem sb_cl0 : (0 : Int32).toNatClampNeg = 0 := by decide
theorem sb_m1 {p : Nat} (h : 0 < p) : nI p + (-1) = nI (p - 1) := by
  obtain ⟨q, rfl⟩ : ∃ q, p = q + 1 := ⟨p - 1, by omega⟩
  exact pk_m1 q
def sb_b (c : Nat) : Int32 := (nI c).toInt8.toInt32
theorem sb_byte : ∀ c, c < 256 → sb_b c &&& 255 = nI c ∧ ((nI c).toUInt32 % 65536).toInt32 = nI c ∧ nI c ≤ 255 := by decide +kernel
def sb_Fit (a : Nat → Int32) : Prop := ∀ j, fits .byte (.int (a j)) = true
def sb_Lat (t : Nat → Nat) (n : Nat) (a : Nat → Int32) : Prop := ∀ j, j < n → t j < 256 ∧ a j = sb_b (t j)
theorem sb_fitB (c : Nat) : fits .byte (.int (sb_b c)) = true := pk_fb _
theorem sb_fit0 : sb_Fit (fun _ => 0) := fun _ => by
  show fits .byte (.int 0) = true
  decide
theorem sb_fitU {a : Nat → Int32} {k : Nat} {x : Int32} (h : sb_Fit a) (hx : fits .byte (.int x) = true) : sb_Fit (upd a k x) := by
  intro j
  by_cases e : j = k
  · subst e
    rw [pk_us]
    exact hx
  · rw [pk_un e]
    exact h j
def sb_cat (t : Nat → Nat) (n : Nat) (s : Nat → Nat) : Nat → Nat := fun j => if j < n then t j else s (j - n)
theorem sb_cat_lo {t s : Nat → Nat} {n j : Nat} (h : j < n) : sb_cat t n s j = t j := if_pos h
theorem sb_cat_hi {t s : Nat → Nat} {n j : Nat} : sb_cat t n s (n + j) = s j := by
  show (if n + j < n then t (n + j) else s (n + j - n)) = s j
  rw [if_neg (by omega), Nat.add_sub_cancel_left]
theorem sb_latPut {t s : Nat → Nat} {n w : Nat} {a a' : Nat → Int32} (h : sb_Lat t n a) (hk : ∀ j, j < n → a' j = a j) (hs : ∀ i, i < w → s i < 256 ∧ a' (n + i) = sb_b (s i)) : sb_Lat (sb_cat t n s) (n + w) a' := by
  intro j hj
  by_cases e : j < n
  · rw [sb_cat_lo e, hk j e]
    exact h j e
  · obtain ⟨i, rfl⟩ : ∃ i, j = n + i := ⟨j - n, by omega⟩
    rw [sb_cat_hi]
    exact hs i (by omega)
theorem sb_latKeep {t : Nat → Nat} {n : Nat} {a a' : Nat → Int32} (h : sb_Lat t n a) (hk : ∀ j, j < n → a' j = a j) : sb_Lat t n a' := fun j hj => by
  rw [hk j hj]
  exact h j hj
def sb_cap (q m : Nat) : Nat := if q ≤ m then m else if 2 * m + 2 < q then q else 2 * m + 2
def sb_Room (q m mc ms : Nat) : Prop := q ≤ m ∨ (1 ≤ mc ∧ sb_cap q m ≤ ms ∧ sb_cap q m ≤ 65536)
theorem sb_cap_ge (q m : Nat) : q ≤ sb_cap q m := by
  unfold sb_cap
  split
  · omega
  · split <;> omega
theorem sb_cap_gem (q m : Nat) : m ≤ sb_cap q m := by
  unfold sb_cap
  split
  · omega
  · split <;> omega
theorem sb_cap_le {q m mc ms : Nat} (hm : m ≤ 65536) (hr : sb_Room q m mc ms) : sb_cap q m ≤ 65536 := by
  rcases hr with h | h
  · rw [sb_cap, if_pos h]
    exact hm
  · exact h.2.2
theorem sb_at {P : Int32 → Prop} {x y : Int32} (e : x = y) (h : P y) : P x := e ▸ h
def sb_dg (w : Nat) : Nat := if w < 10 then 1 else if w < 100 then 2 else if w < 1000 then 3 else if w < 10000 then 4 else if w < 100000 then 5 else if w < 1000000 then 6 else if w < 10000000 then 7 else if w < 100000000 then 8 else if w < 1000000000 then 9 else 10
def sb_dec (v : Nat) : Nat → Nat := fun i => 48 + v / 10 ^ (sb_dg v - 1 - i) % 10
theorem sb_dg_in (w : Nat) : 1 ≤ sb_dg w ∧ sb_dg w ≤ 10 := by
  unfold sb_dg
  constructor <;> (repeat' split) <;> omega
theorem sb_dg100 {w : Nat} (h : 100 ≤ w) (hw : w < 2 ^ 31) : sb_dg w = sb_dg (w / 100) + 2 := by
  rw [sb_dg, sb_dg, if_neg (show ¬ w < 10 by omega), if_neg (show ¬ w < 100 by omega)]
  by_cases h3 : w < 1000
  · rw [if_pos h3, if_pos (show w / 100 < 10 by omega)]
  rw [if_neg h3, if_neg (show ¬ w / 100 < 10 by omega)]
  by_cases h4 : w < 10000
  · rw [if_pos h4, if_pos (show w / 100 < 100 by omega)]
  rw [if_neg h4, if_neg (show ¬ w / 100 < 100 by omega)]
  by_cases h5 : w < 100000
  · rw [if_pos h5, if_pos (show w / 100 < 1000 by omega)]
  rw [if_neg h5, if_neg (show ¬ w / 100 < 1000 by omega)]
  by_cases h6 : w < 1000000
  · rw [if_pos h6, if_pos (show w / 100 < 10000 by omega)]
  rw [if_neg h6, if_neg (show ¬ w / 100 < 10000 by omega)]
  by_cases h7 : w < 10000000
  · rw [if_pos h7, if_pos (show w / 100 < 100000 by omega)]
  rw [if_neg h7, if_neg (show ¬ w / 100 < 100000 by omega)]
  by_cases h8 : w < 100000000
  · rw [if_pos h8, if_pos (show w / 100 < 1000000 by omega)]
  rw [if_neg h8, if_neg (show ¬ w / 100 < 1000000 by omega)]
  by_cases h9 : w < 1000000000
  · rw [if_pos h9, if_pos (show w / 100 < 10000000 by omega)]
  rw [if_neg h9, if_neg (show ¬ w / 100 < 10000000 by omega)]
  rw [if_pos (show w / 100 < 100000000 by omega)]
theorem sb_negT {w : Nat} (h : w < 2 ^ 31) : (-nI w).toInt = -(w : Int) := by
  rw [Int32.toInt_neg, nI_toInt h]
  exact Int.bmod_eq_of_le (by omega) (by omega)
theorem sb_nle {a b : Nat} (ha : a < 2 ^ 31) (hb : b < 2 ^ 31) : -nI a ≤ -nI b ↔ b ≤ a := by
  rw [Int32.le_iff_toInt_le, sb_negT ha, sb_negT hb]
  omega
theorem sb_nlt {a b : Nat} (ha : a < 2 ^ 31) (hb : b < 2 ^ 31) : -nI a < -nI b ↔ b < a := by
  rw [Int32.lt_iff_toInt_lt, sb_negT ha, sb_negT hb]
  omega
theorem sb_cmp {A B : Prop} {x : Int32} (v c : Nat) (f : c ≤ v → A) (g : v < c → B) (hv : v < 2 ^ 31) (hx : x = -nI c := by rfl) (hc : c < 2 ^ 31 := by omega) : (-nI v ≤ x → A) ∧ (¬ -nI v ≤ x → B) := by
  subst hx
  rw [sb_nle hv hc]
  exact ⟨f, fun z => g (by omega)⟩
theorem sb_ndiv {w : Nat} (hw : w < 2 ^ 31) : (-nI w) / 100 = -nI (w / 100) := by
  apply Int32.toInt_inj.mp
  have h100 : (100 : Int32).toInt = 100 := by decide
  rw [Int32.toInt_div, sb_negT hw, h100, sb_negT (by omega), Int.neg_tdiv, Int.tdiv_eq_ediv_of_nonneg (by omega), Int.bmod_eq_of_le (by omega) (by omega)]
  omega
theorem sb_nrem {w : Nat} (hw : w < 2 ^ 31) : (-nI (w / 100)) * 100 - (-nI w) = nI (w % 100) := by
  have h := pk_rem (a := w) (d := 100) hw (by decide) (by decide)
  rw [pk_div hw (by decide) (by decide)] at h
  rw [← h]
  show (-nI (w / 100)) * nI 100 - (-nI w) = nI w - nI (w / 100) * nI 100
  rw [Int32.neg_mul, Int32.sub_neg, Int32.add_comm, ← Int32.sub_eq_add_neg]
end
section
/-! rows on bits, shifts and unsigned numbers, to paste: each family out of a closed proof of our own, whole with what it rests on; each by itself clean at Lean in its own claim (generation 39, form 5). Take a family whole -/
/-! ===== Int32 by its bits: bt x i ===== -/
def bt (x : Int32) (i : Nat) : Bool := x.toBitVec.getLsbD i
theorem b_ext {x y : Int32} (h : ∀ i, i < 32 → bt x i = bt y i) : x = y := Int32.toBitVec_inj.mp (BitVec.eq_of_getLsbD_eq (fun i hi => h i hi))
theorem b_or (x y : Int32) (i : Nat) : bt (x ||| y) i = (bt x i || bt y i) := by unfold bt; rw [Int32.toBitVec_or, BitVec.getLsbD_or]
theorem b_and (x y : Int32) (i : Nat) : bt (x &&& y) i = (bt x i && bt y i) := by unfold bt; rw [Int32.toBitVec_and, BitVec.getLsbD_and]
theorem b_xor (x y : Int32) (i : Nat) : bt (x ^^^ y) i = (bt x i ^^ bt y i) := by unfold bt; rw [Int32.toBitVec_xor, BitVec.getLsbD_xor]
theorem b_big {x : Int32} {i : Nat} (h : 32 ≤ i) : bt x i = false := BitVec.getLsbD_of_ge _ _ h
theorem b_255 (i : Nat) : bt 255 i = decide (i < 8) := by
  rcases Nat.lt_or_ge i 32 with h | h
  · exact (by decide +kernel : ∀ i, i < 32 → bt 255 i = decide (i < 8)) i h
  · rw [b_big h, decide_eq_false (by omega)]
theorem b_65535 (i : Nat) : bt 65535 i = decide (i < 16) := by
  rcases Nat.lt_or_ge i 32 with h | h
  · exact (by decide +kernel : ∀ i, i < 32 → bt 65535 i = decide (i < 16)) i h
  · rw [b_big h, decide_eq_false (by omega)]
theorem b_m1 : ∀ i, i < 32 → bt (-1) i = true := by decide +kernel
theorem b_0 (i : Nat) : bt 0 i = false := BitVec.getLsbD_zero
theorem s_l : ∀ n, n < 32 → ((nI n &&& 31).toBitVec.smod 32).toNat = n := by decide +kernel
theorem s_u : ∀ n, n < 32 → (((nI n).toUInt32 &&& Int32.toUInt32 31).toBitVec % 32).toNat = n := by decide +kernel
theorem b_shl (n : Nat) (hn : n < 32) (x : Int32) {i : Nat} (hi : i < 32) : bt (x <<< (nI n &&& 31)) i = (decide (n ≤ i) && bt x (i - n)) := by
  unfold bt
  rw [Int32.toBitVec_shiftLeft]
  show (x.toBitVec <<< ((nI n &&& 31).toBitVec.smod 32).toNat).getLsbD i = _
  rw [s_l n hn, BitVec.getLsbD_shiftLeft]
  rcases Nat.lt_or_ge i n with h | h
  · simp [h, Nat.not_le.mpr h]
  · simp [hi, h, Nat.not_lt.mpr h]
theorem b_ushr (n : Nat) (hn : n < 32) (x : Int32) (i : Nat) : bt ((x.toUInt32 >>> ((nI n).toUInt32 &&& Int32.toUInt32 31)).toInt32) i = bt x (n + i) := by
  show (x.toUInt32 >>> ((nI n).toUInt32 &&& Int32.toUInt32 31)).toBitVec.getLsbD i = x.toUInt32.toBitVec.getLsbD (n + i)
  rw [UInt32.toBitVec_shiftRight]
  show (x.toUInt32.toBitVec >>> (((nI n).toUInt32 &&& Int32.toUInt32 31).toBitVec % 32).toNat).getLsbD i = _
  rw [s_u n hn, BitVec.getLsbD_ushiftRight]
theorem b_sshr (n : Nat) (hn : n < 32) (x : Int32) {i : Nat} (hi : i < 32) : bt (x >>> (nI n &&& 31)) i = if n + i < 32 then bt x (n + i) else bt x 31 := by
  unfold bt
  rw [Int32.toBitVec_shiftRight]
  show (x.toBitVec.sshiftRight ((nI n &&& 31).toBitVec.smod 32).toNat).getLsbD i = _
  rw [s_l n hn, BitVec.getLsbD_sshiftRight, BitVec.msb_eq_getLsbD_last]
  simp [hi]
theorem b_shl8 (x : Int32) {i : Nat} (hi : i < 32) : bt (x <<< ((8 : Int32) &&& 31)) i = (decide (8 ≤ i) && bt x (i - 8)) := b_shl 8 (by omega) x hi
theorem b_shl16 (x : Int32) {i : Nat} (hi : i < 32) : bt (x <<< ((16 : Int32) &&& 31)) i = (decide (16 ≤ i) && bt x (i - 16)) := b_shl 16 (by omega) x hi
theorem b_shl24 (x : Int32) {i : Nat} (hi : i < 32) : bt (x <<< ((24 : Int32) &&& 31)) i = (decide (24 ≤ i) && bt x (i - 24)) := b_shl 24 (by omega) x hi
theorem b_sshr8 (x : Int32) {i : Nat} (hi : i < 32) : bt (x >>> ((8 : Int32) &&& 31)) i = if 8 + i < 32 then bt x (8 + i) else bt x 31 := b_sshr 8 (by omega) x hi
/-! ===== nI under and, xor, >>>, one bit, 65535 ===== -/
theorem nx_and (a b : Nat) : nI a &&& nI b = nI (a &&& b) := by
  apply Int32.toBitVec_inj.1
  show BitVec.ofNat 32 a &&& BitVec.ofNat 32 b = BitVec.ofNat 32 (a &&& b)
  apply BitVec.eq_of_getLsbD_eq
  intro i hi
  simp [hi]
theorem nx_xor (a b : Nat) : nI a ^^^ nI b = nI (a ^^^ b) := by
  apply Int32.toBitVec_inj.1
  show BitVec.ofNat 32 a ^^^ BitVec.ofNat 32 b = BitVec.ofNat 32 (a ^^^ b)
  apply BitVec.eq_of_getLsbD_eq
  intro i hi
  simp [hi]
theorem nx_cnt : ∀ j : Fin 32, (UInt32.ofNat j.val &&& Int32.toUInt32 31).toNat % 32 = j.val := by decide +kernel
theorem nx_ush {k j : Nat} (hk : k < 65536) (hj : j < 32) : ((nI k).toUInt32 >>> ((nI j).toUInt32 &&& Int32.toUInt32 31)).toInt32 = nI (k >>> j) := by
  have hs : k >>> j ≤ k := by
    rw [Nat.shiftRight_eq_div_pow]
    exact Nat.div_le_self _ _
  have e2 : UInt32.ofNat k >>> (UInt32.ofNat j &&& Int32.toUInt32 31) = UInt32.ofNat (k >>> j) := by
    apply UInt32.toNat_inj.1
    have h1 : (UInt32.ofNat k).toNat = k := Nat.mod_eq_of_lt (by omega)
    have h2 : (UInt32.ofNat (k >>> j)).toNat = k >>> j := Nat.mod_eq_of_lt (by omega)
    rw [UInt32.toNat_shiftRight, nx_cnt ⟨j, hj⟩, h1, h2]
  show (UInt32.ofNat k >>> (UInt32.ofNat j &&& Int32.toUInt32 31)).toInt32 = _
  rw [e2]
  rfl
theorem nx_bit {k j : Nat} (hk : k < 65536) (hj : j < 16) : (((nI k).toUInt32 >>> ((nI j).toUInt32 &&& Int32.toUInt32 31)).toInt32 &&& 1) = 0 ↔ k.testBit j = false := by
  rw [nx_ush hk (by omega)]
  show nI (k >>> j) &&& nI 1 = 0 ↔ _
  rw [nx_and, Nat.and_one_is_mod, ← nI_0, nI_eq (by omega) (by omega), Nat.testBit_eq_decide_div_mod_eq, Nat.shiftRight_eq_div_pow, decide_eq_false_iff_not]
  generalize k / 2 ^ j = z
  omega
theorem nx_mod (k : Nat) : nI k &&& 65535 = nI (k % 65536) := by
  show nI k &&& nI 65535 = _
  rw [nx_and, show (65535 : Nat) = 2 ^ 16 - 1 from rfl, Nat.and_two_pow_sub_one_eq_mod]
theorem nx_m16 {k : Nat} (h : k < 65536) : nI k &&& 65535 = nI k := by rw [nx_mod, Nat.mod_eq_of_lt h]
theorem nx_mask (x : Int32) : ∃ k, k < 65536 ∧ x &&& 65535 = nI k := by
  have e : x = nI x.toBitVec.toNat := by
    apply Int32.toBitVec_inj.1
    show x.toBitVec = BitVec.ofNat 32 x.toBitVec.toNat
    simp
  refine ⟨x.toBitVec.toNat % 65536, Nat.mod_lt _ (by omega), ?_⟩
  rw [← nx_mod, ← e]
/-! ===== Int32 as a set of bits: test, set ===== -/
def nf_M (m : Int32) : Nat := 4294967296 - m.toBitVec.toNat
theorem nf_sh : ∀ l, l < 32 → ((1 : Int32) <<< (nI l &&& 31)).toBitVec = BitVec.twoPow 32 l := by decide +kernel
theorem nf_sl : ∀ l, l < 32 → (((nI l).toUInt32 &&& Int32.toUInt32 31).toBitVec % 32).toNat = l := by decide +kernel
theorem nf_tp : ∀ l, l < 32 → BitVec.twoPow 32 l ≠ 0#32 := by decide +kernel
theorem nf_bit (m : Int32) (l : Nat) (hl : l < 32) : ((m.toUInt32 >>> ((nI l).toUInt32 &&& Int32.toUInt32 31)).toInt32 &&& 1) = 0 ↔ (m &&& ((1 : Int32) <<< (nI l &&& 31))) = 0 := by
  have e : ((m.toUInt32 >>> ((nI l).toUInt32 &&& Int32.toUInt32 31)).toInt32).toBitVec = m.toBitVec >>> l := by
    show m.toBitVec >>> (((nI l).toUInt32 &&& Int32.toUInt32 31).toBitVec % 32) = m.toBitVec >>> l
    rw [BitVec.ushiftRight_eq', nf_sl l hl]
  rw [← Int32.toBitVec_inj, ← Int32.toBitVec_inj, Int32.toBitVec_and, Int32.toBitVec_and, nf_sh l hl, e, BitVec.and_twoPow]
  show (m.toBitVec >>> l &&& 1#32) = 0#32 ↔ _ = 0#32
  rw [BitVec.and_one_eq_setWidth_ofBool_getLsbD, BitVec.getLsbD_ushiftRight, Nat.add_zero]
  cases hb : m.toBitVec.getLsbD l
  · exact ⟨fun _ => by simp, fun _ => by decide⟩
  · exact ⟨fun z => absurd z (by decide), fun z => absurd ((if_pos rfl).symm.trans z) (nf_tp l hl)⟩
theorem nf_gr (m k : Int32) (h : m &&& k = 0) (hk : k ≠ 0) : nf_M (m ||| k) < nf_M m := by
  have hm := m.toBitVec.isLt
  have hm' := (m ||| k).toBitVec.isLt
  have h1 : m.toBitVec.toNat ≤ (m ||| k).toBitVec.toNat := by
    rw [Int32.toBitVec_or, BitVec.toNat_or]
    exact Nat.left_le_or
  have h2 : m.toBitVec.toNat ≠ (m ||| k).toBitVec.toNat := by
    intro e
    have e2 : m = m ||| k := Int32.toBitVec_inj.mp (BitVec.eq_of_toNat_eq e)
    apply hk
    apply Int32.toBitVec_inj.mp
    show k.toBitVec = 0#32
    apply BitVec.eq_of_getLsbD_eq
    intro i hi
    have a : m.toBitVec.getLsbD i = (m.toBitVec.getLsbD i || k.toBitVec.getLsbD i) := by rw [← BitVec.getLsbD_or, ← Int32.toBitVec_or, ← e2]
    have b : (m.toBitVec.getLsbD i && k.toBitVec.getLsbD i) = false := by
      rw [← BitVec.getLsbD_and, ← Int32.toBitVec_and, h]
      exact BitVec.getLsbD_zero
    rw [BitVec.getLsbD_zero]
    revert a b
    cases m.toBitVec.getLsbD i <;> cases k.toBitVec.getLsbD i <;> simp
  unfold nf_M
  omega
/-! ===== a byte read unsigned ===== -/
theorem bp_b (x : Int32) : x.toInt8.toInt32 &&& 255 = x &&& 255 := by
  apply Int32.toBitVec_inj.mp
  rw [Int32.toBitVec_and, Int32.toBitVec_and, Int8.toBitVec_toInt32, Int32.toBitVec_toInt8]
  apply BitVec.eq_of_getLsbD_eq
  intro i hi
  rw [BitVec.getLsbD_and, BitVec.getLsbD_and]
  have hm : ∀ i < 32, 8 ≤ i → (255 : Int32).toBitVec.getLsbD i = false := by decide
  rcases Nat.lt_or_ge i 8 with z | z
  · rw [BitVec.getLsbD_signExtend, BitVec.getLsbD_signExtend, if_pos z, if_pos hi]
    simp only [z, hi, decide_true, Bool.true_and]
  · rw [hm i hi z]; simp
/-! ===== the char cast and 65535 ===== -/
theorem em_w (v : Int32) : ∃ w : Nat, w < 65536 ∧ (v.toUInt32 % 65536).toInt32 = nI w ∧ v &&& 65535 = nI w := by
  have hr := lw_u16_r v
  have h0 : (0 : Int32).toInt = 0 := by decide
  obtain ⟨w, h1, h2⟩ := nI_of (x := lw_u16 v) (by rw [Int32.lt_iff_toInt_lt]; omega)
  have h3 : (v.toUInt32 % 65536).toInt32 = nI w := h2
  rw [h2, nI_toInt h1] at hr
  exact ⟨w, by omega, h3, by rw [← lg_i2c_mask, ← lg_i2c_nf, h3]⟩
/-! ===== Int64 as a set of bits: test, set, clear ===== -/
theorem ts_nf {x : Bool} (h : ¬ x = false) : x = true := by cases x <;> first | rfl | exact absurd rfl h
theorem ts_nt {x : Bool} (h : ¬ x = true) : x = false := by cases x <;> first | rfl | exact absurd rfl h
theorem ts_bit {w : Int64} {s : UInt64} {j : Nat} (hj : j < 64) (hs : s.toNat = j) : ((w.toUInt64 >>> s).toInt64 &&& 1) = 0 ↔ w.toBitVec.getLsbD j = false := by
  have e : (w.toUInt64 >>> s).toInt64.toBitVec = w.toBitVec >>> j := by
    apply BitVec.eq_of_toNat_eq
    show (w.toUInt64 >>> s).toNat = _
    rw [UInt64.toNat_shiftRight, hs, Nat.mod_eq_of_lt hj, BitVec.toNat_ushiftRight]
    rfl
  rw [← Int64.toBitVec_inj, Int64.toBitVec_and, e]
  show w.toBitVec >>> j &&& 1#64 = 0#64 ↔ _
  constructor
  · intro h
    have t := congrArg (fun x => x.getLsbD 0) h
    simpa using t
  · intro h
    apply BitVec.eq_of_getLsbD_eq
    intro i hi
    cases i with
    | zero => simp [h]
    | succ i => simp
theorem ts_or {w m : Int64} {j : Nat} (hj : j < 64) (hm : m.toBitVec = BitVec.twoPow 64 j) : (w ||| m) = w ↔ w.toBitVec.getLsbD j = true := by
  rw [← Int64.toBitVec_inj, Int64.toBitVec_or, hm]
  constructor
  · intro h
    have t := congrArg (fun x => x.getLsbD j) h
    simp only [BitVec.getLsbD_or, BitVec.getLsbD_twoPow] at t
    simpa [hj] using t.symm
  · intro h
    apply BitVec.eq_of_getLsbD_eq
    intro i hi
    rw [BitVec.getLsbD_or, BitVec.getLsbD_twoPow]
    by_cases e : j = i
    · subst e; rw [h, Bool.true_or]
    · simp [e]
theorem ts_and {w m : Int64} {j : Nat} (hj : j < 64) (hm : m.toBitVec = BitVec.twoPow 64 j) : (w &&& (m ^^^ (-1))) = w ↔ w.toBitVec.getLsbD j = false := by
  have ha : (-1 : Int64).toBitVec = BitVec.allOnes 64 := by decide
  rw [← Int64.toBitVec_inj, Int64.toBitVec_and, Int64.toBitVec_xor, hm, ha]
  constructor
  · intro h
    have t := congrArg (fun x => x.getLsbD j) h
    simp only [BitVec.getLsbD_and, BitVec.getLsbD_xor, BitVec.getLsbD_twoPow, BitVec.getLsbD_allOnes] at t
    simpa [hj] using t.symm
  · intro h
    apply BitVec.eq_of_getLsbD_eq
    intro i hi
    rw [BitVec.getLsbD_and, BitVec.getLsbD_xor, BitVec.getLsbD_twoPow, BitVec.getLsbD_allOnes]
    by_cases e : j = i
    · subst e; rw [h, Bool.false_and]
    · simp [e, hi]
/-! ===== lN n to 2^64: shifts, and, or, masks, one bit ===== -/
theorem wb_tb (n : Nat) : (lN n).toBitVec = BitVec.ofNat 64 n := rfl
theorem wb_inj {a b : Int64} (h : a.toBitVec = b.toBitVec) : a = b := Int64.toBitVec_inj.mp h
theorem wb_tn {n : Nat} (h : n < 2 ^ 64) : (lN n).toBitVec.toNat = n := by rw [wb_tb, BitVec.toNat_ofNat, Nat.mod_eq_of_lt h]
theorem wb_of (x : Int64) : ∃ n, n < 2 ^ 64 ∧ x = lN n := ⟨x.toBitVec.toNat, x.toBitVec.isLt, wb_inj (by rw [wb_tb]; simp)⟩
theorem wb_of32 (x : Int32) : ∃ n, n < 2 ^ 32 ∧ x = nI n := ⟨x.toBitVec.toNat, x.toBitVec.isLt, Int32.toBitVec_inj.mp (by show _ = BitVec.ofNat 32 _; simp)⟩
theorem wb_c : ∀ k, k < 64 → ((nI k).toInt64 &&& 63) = lN k := by decide +kernel
theorem wb_cu : ∀ k, k < 64 → ((nI k).toInt64.toUInt64 &&& Int64.toUInt64 63) = UInt64.ofNat k := by decide +kernel
theorem wb_sm : ∀ k, k < 64 → (BitVec.ofNat 64 k).smod 64 = BitVec.ofNat 64 k := by decide +kernel
theorem wb_pw {a b : Nat} (h : a ≤ b) : 2 ^ b = 2 ^ a * 2 ^ (b - a) := by rw [← Nat.pow_add]; congr 1; omega
theorem wb_lt2 {a b : Nat} (h : a < b) : 2 ^ a < 2 ^ b := Nat.pow_lt_pow_right (by decide) h
theorem wb_mod (n : Nat) : lN n = lN (n % 2 ^ 64) := wb_inj (by rw [wb_tb, wb_tb]; apply BitVec.eq_of_toNat_eq; rw [BitVec.toNat_ofNat, BitVec.toNat_ofNat, Nat.mod_mod])
theorem wb_shr {n k : Nat} (hn : n < 2 ^ 64) (hk : k < 64) : ((lN n).toUInt64 >>> ((nI k).toInt64.toUInt64 &&& Int64.toUInt64 63)).toInt64 = lN (n / 2 ^ k) := by
  rw [wb_cu k hk]
  apply wb_inj
  apply BitVec.eq_of_toNat_eq
  show ((lN n).toUInt64 >>> UInt64.ofNat k).toNat = (BitVec.ofNat 64 _).toNat
  have h1 : (UInt64.ofNat k).toNat = k := by
    show (BitVec.ofNat 64 k).toNat = k
    rw [BitVec.toNat_ofNat, Nat.mod_eq_of_lt (by omega)]
  have h2 : (lN n).toUInt64.toNat = n := wb_tn hn
  rw [UInt64.toNat_shiftRight, h1, h2, Nat.mod_eq_of_lt hk, Nat.shiftRight_eq_div_pow, BitVec.toNat_ofNat, Nat.mod_eq_of_lt (Nat.lt_of_le_of_lt (Nat.div_le_self _ _) hn)]
theorem wb_shl (n : Nat) {k : Nat} (hk : k < 64) : lN n <<< ((nI k).toInt64 &&& 63) = lN (n * 2 ^ k) := by
  rw [wb_c k hk]
  apply wb_inj
  rw [Int64.toBitVec_shiftLeft, wb_tb, wb_tb, wb_tb, wb_sm k hk]
  apply BitVec.eq_of_toNat_eq
  rw [BitVec.shiftLeft_eq', BitVec.toNat_shiftLeft, BitVec.toNat_ofNat, BitVec.toNat_ofNat, BitVec.toNat_ofNat, Nat.mod_eq_of_lt (show k < 2 ^ 64 by omega), Nat.shiftLeft_eq, Nat.mul_mod, Nat.mod_mod, ← Nat.mul_mod]
theorem wb_and {a b : Nat} (ha : a < 2 ^ 64) (hb : b < 2 ^ 64) : lN a &&& lN b = lN (a &&& b) := by
  apply wb_inj
  rw [Int64.toBitVec_and, wb_tb, wb_tb, wb_tb]
  apply BitVec.eq_of_toNat_eq
  rw [BitVec.toNat_and, BitVec.toNat_ofNat, BitVec.toNat_ofNat, BitVec.toNat_ofNat, Nat.mod_eq_of_lt ha, Nat.mod_eq_of_lt hb, Nat.mod_eq_of_lt (Nat.and_lt_two_pow _ hb)]
theorem wb_or {a b : Nat} (ha : a < 2 ^ 64) (hb : b < 2 ^ 64) : lN a ||| lN b = lN (a ||| b) := by
  apply wb_inj
  rw [Int64.toBitVec_or, wb_tb, wb_tb, wb_tb]
  apply BitVec.eq_of_toNat_eq
  rw [BitVec.toNat_or, BitVec.toNat_ofNat, BitVec.toNat_ofNat, BitVec.toNat_ofNat, Nat.mod_eq_of_lt ha, Nat.mod_eq_of_lt hb, Nat.mod_eq_of_lt (Nat.or_lt_two_pow ha hb)]
theorem wb_mask {n k : Nat} (hn : n < 2 ^ 64) (hk : k < 64) : lN n &&& lN (2 ^ k - 1) = lN (n % 2 ^ k) := by
  rw [wb_and hn (by have := wb_lt2 hk; omega), Nat.and_two_pow_sub_one_eq_mod]
theorem wb_a1 {n : Nat} (hn : n < 2 ^ 64) : lN n &&& 1 = lN (n % 2) := wb_mask (k := 1) hn (by decide)
theorem wb_bit {n k : Nat} (hn : n < 2 ^ 64) (hk : k < 64) : ((lN n).toUInt64 >>> ((nI k).toInt64.toUInt64 &&& Int64.toUInt64 63)).toInt64 &&& 1 = lN (n / 2 ^ k % 2) := by
  rw [wb_shr hn hk, wb_a1 (Nat.lt_of_le_of_lt (Nat.div_le_self _ _) hn)]
theorem wb_xor {q k : Nat} (hk : k < 63) (h : 2 ^ k ≤ q) (h2 : q < 2 ^ (k + 1)) : lN q ^^^ lN (2 ^ k) = lN (q - 2 ^ k) := by
  obtain ⟨r, rfl⟩ : ∃ r, q = 2 ^ k + r := ⟨q - 2 ^ k, by omega⟩
  have hr : r < 2 ^ k := by rw [Nat.pow_succ] at h2; omega
  have hx : (2 ^ k + r) ^^^ 2 ^ k = r := by
    apply Nat.eq_of_testBit_eq
    intro i
    rw [Nat.testBit_xor, Nat.testBit_two_pow]
    rcases Nat.lt_trichotomy i k with h | h | h
    · rw [Nat.testBit_two_pow_add_gt h]
      simp [show ¬ k = i by omega]
    · subst h
      rw [Nat.testBit_two_pow_add_eq]
      simp
    · have a1 : 2 ^ (k + 1) ≤ 2 ^ i := Nat.pow_le_pow_right (by decide) h
      rw [Nat.testBit_lt_two_pow (show 2 ^ k + r < 2 ^ i by omega), Nat.testBit_lt_two_pow (show r < 2 ^ i by omega)]
      simp [show ¬ k = i by omega]
  have b1 := wb_lt2 (show k + 1 < 64 by omega)
  have b2 := wb_lt2 (show k < 64 by omega)
  apply wb_inj
  rw [Int64.toBitVec_xor, wb_tb, wb_tb, wb_tb]
  apply BitVec.eq_of_toNat_eq
  rw [BitVec.toNat_xor, BitVec.toNat_ofNat, BitVec.toNat_ofNat, BitVec.toNat_ofNat, Nat.mod_eq_of_lt (by omega : 2 ^ k + r < 2 ^ 64), Nat.mod_eq_of_lt b2, hx, Nat.add_sub_cancel_left, Nat.mod_eq_of_lt (by omega)]
/-! ===== lN: masks, 'or' of parts that don't overlap is a sum ===== -/
theorem u_tn {n : Nat} (h : n < 2 ^ 64) : (UInt64.ofNat n).toNat = n := Nat.mod_eq_of_lt h
theorem g_and {a b c : Nat} (ha : a < 2 ^ 64) (hb : b < 2 ^ 64) (hc : a &&& b = c) : lN a &&& lN b = lN c := by
  subst hc
  have h : UInt64.ofNat a &&& UInt64.ofNat b = UInt64.ofNat (a &&& b) := UInt64.toNat_inj.mp (by rw [UInt64.toNat_and, u_tn ha, u_tn hb, u_tn (Nat.and_lt_two_pow a hb)])
  have h2 := congrArg UInt64.toInt64 h
  exact h2
theorem g_and1 {a : Nat} (ha : a < 2 ^ 64) : lN a &&& 1 = lN (a % 2) := g_and (b := 1) ha (by decide) (Nat.and_two_pow_sub_one_eq_mod a 1)
theorem g_mask {a s p : Nat} (hp : 2 ^ s = p) (hs : s < 64) (ha : a < 2 ^ 64) : lN a &&& lN (p - 1) = lN (a % p) := by
  subst hp
  have := Nat.pow_lt_pow_right (show 1 < 2 by decide) hs
  exact g_and ha (by omega) (Nat.and_two_pow_sub_one_eq_mod a s)
theorem g_or {k p a b : Nat} (hp : 2 ^ k = p) (ha : a < p) (h : b * p + a < 2 ^ 64) : lN (b * p) ||| lN a = lN (b * p + a) := by
  subst hp
  have h1 : b * 2 ^ k ||| a = b * 2 ^ k + a := by rw [← Nat.shiftLeft_eq, Nat.shiftLeft_add_eq_or_of_lt ha]
  have h3 : UInt64.ofNat (b * 2 ^ k) ||| UInt64.ofNat a = UInt64.ofNat (b * 2 ^ k + a) := UInt64.toNat_inj.mp (by rw [UInt64.toNat_or, u_tn (by omega), u_tn (by omega), u_tn h, h1])
  have h2 := congrArg UInt64.toInt64 h3
  exact h2
theorem g_or' {k p a b : Nat} (hp : 2 ^ k = p) (ha : a < p) (h : a + b * p < 2 ^ 64) : lN a ||| lN (b * p) = lN (a + b * p) := by
  rw [Int64.or_comm, g_or hp ha (by omega), Nat.add_comm]
theorem g_ushr {a k p : Nat} {y : UInt64} (hy : y = UInt64.ofNat k) (hk : k < 64) (hp : 2 ^ k = p) (ha : a < 2 ^ 64) : ((lN a).toUInt64 >>> y).toInt64 = lN (a / p) := by
  subst hy hp
  have h : UInt64.ofNat a >>> UInt64.ofNat k = UInt64.ofNat (a / 2 ^ k) := UInt64.toNat_inj.mp (by rw [UInt64.toNat_shiftRight, u_tn ha, u_tn (by omega), u_tn (Nat.lt_of_le_of_lt (Nat.div_le_self _ _) ha), Nat.mod_eq_of_lt hk, Nat.shiftRight_eq_div_pow])
  have h2 := congrArg UInt64.toInt64 h
  exact h2
theorem g_shl {a k p : Nat} {y : Int64} (hy : y.toBitVec.smod 64 = BitVec.ofNat 64 k) (hk : k < 64) (hp : 2 ^ k = p) (ha : a < 2 ^ 64) : lN a <<< y = lN (a * p) := by
  subst hp
  apply Int64.toBitVec_inj.mp
  rw [Int64.toBitVec_shiftLeft, hy]
  apply BitVec.eq_of_toNat_eq
  have hb : (lN a).toBitVec.toNat = a := Nat.mod_eq_of_lt ha
  have hk' : (BitVec.ofNat 64 k).toNat = k := Nat.mod_eq_of_lt (by omega)
  have h : ((lN a).toBitVec <<< BitVec.ofNat 64 k).toNat = (a * 2 ^ k) % 2 ^ 64 := by simp only [BitVec.shiftLeft_eq', BitVec.toNat_shiftLeft, hb, hk', Nat.shiftLeft_eq]
  exact h
/-! ===== lN to 2^62 under >> and >>> ===== -/
theorem pf_lI {a : Nat} (h : a < 2 ^ 63) : (lN a).toInt = (a : Int) := lg_ofNat_toInt h
theorem pf_shr {a d : Nat} {D : Int64} (hD : (D.toBitVec.smod 64).toNat = d) (h : a < 2 ^ 62) : lN a >>> D = lN (a / 2 ^ d) := by
  have hd : a / 2 ^ d ≤ a := Nat.div_le_self _ _
  apply Int64.toInt_inj.mp
  have e : (lN a >>> D).toInt = (lN a).toInt >>> d := by
    rw [← hD]
    exact BitVec.toInt_sshiftRight ..
  rw [e, Int.shiftRight_eq_div_pow, pf_lI (by omega), pf_lI (by omega)]
  rfl
theorem pf_ushr {a d : Nat} {D : UInt64} (hD : D.toNat % 64 = d) (h : a < 2 ^ 62) : ((lN a).toUInt64 >>> D).toInt64 = lN (a / 2 ^ d) := by
  have hd : a / 2 ^ d ≤ a := Nat.div_le_self _ _
  have e : (lN a).toUInt64 >>> D = UInt64.ofNat (a / 2 ^ d) := UInt64.toNat_inj.mp (by
    rw [UInt64.toNat_shiftRight, hD, Nat.shiftRight_eq_div_pow, UInt64.toNat_ofNat']
    show (UInt64.ofNat a).toNat / 2 ^ d = _
    rw [UInt64.toNat_ofNat', Nat.mod_eq_of_lt (by omega), Nat.mod_eq_of_lt (by omega)])
  rw [e]
  rfl
theorem pf_andw (x : Int64) : ∃ m, m < 2 ^ 32 ∧ x &&& 4294967295 = lN m := ⟨x.toBitVec.toNat % 2 ^ 32, Nat.mod_lt _ (by decide), Int64.toBitVec_inj.mp (BitVec.eq_of_toNat_eq (by
  show (x.toBitVec &&& 4294967295#64).toNat = (BitVec.ofNat 64 (x.toBitVec.toNat % 2 ^ 32)).toNat
  rw [BitVec.toNat_and, show (4294967295#64).toNat = 2 ^ 32 - 1 from by decide, Nat.and_two_pow_sub_one_eq_mod, BitVec.toNat_ofNat]
  omega))⟩
/-! ===== Int64 as an unsigned number: uN x ===== -/
def uN (x : Int64) : Nat := x.toUInt64.toNat
theorem uN_lt (x : Int64) : uN x < 18446744073709551616 := x.toUInt64.toNat_lt
theorem uN_inj {x y : Int64} (h : uN x = uN y) : x = y := congrArg UInt64.toInt64 (UInt64.toNat_inj.mp h)
theorem uN_add (x y : Int64) : uN (x + y) = (uN x + uN y) % 18446744073709551616 := by
  show (x.toUInt64 + y.toUInt64).toNat = _
  exact UInt64.toNat_add _ _
theorem uN_mul (x y : Int64) : uN (x * y) = (uN x * uN y) % 18446744073709551616 := by
  show (x.toUInt64 * y.toUInt64).toNat = _
  exact UInt64.toNat_mul _ _
theorem uN_shl (x : Int64) : uN (x <<< ((1 : Int32).toInt64 &&& 63)) = (2 * uN x) % 18446744073709551616 := by
  have h : (((1 : Int32).toInt64 &&& 63).toBitVec.smod 64).toNat = 1 := by decide
  show (x.toBitVec <<< (((1 : Int32).toInt64 &&& 63).toBitVec.smod 64).toNat).toNat = _
  rw [h, BitVec.toNat_shiftLeft, Nat.shiftLeft_eq, Nat.mul_comm]
  rfl
theorem uN_shr (x : Int64) (s : UInt64) : uN (x.toUInt64 >>> s).toInt64 = uN x / 2 ^ (s.toNat % 64) := by
  show (x.toUInt64 >>> s).toNat = _
  rw [UInt64.toNat_shiftRight, Nat.shiftRight_eq_div_pow]
  rfl
theorem uN_s32 (x : Int64) : uN (x.toUInt64 >>> ((32 : Int32).toInt64.toUInt64 &&& Int64.toUInt64 63)).toInt64 = uN x / 4294967296 := by
  have h : ((32 : Int32).toInt64.toUInt64 &&& Int64.toUInt64 63).toNat % 64 = 32 := by decide
  rw [uN_shr, h]
theorem uN_s63 (x : Int64) : uN (x.toUInt64 >>> ((63 : Int32).toInt64.toUInt64 &&& Int64.toUInt64 63)).toInt64 = uN x / 9223372036854775808 := by
  have h : ((63 : Int32).toInt64.toUInt64 &&& Int64.toUInt64 63).toNat % 64 = 63 := by decide
  rw [uN_shr, h]
theorem uN_lo (x : Int64) : uN (x &&& 4294967295) = uN x % 4294967296 := by
  show (x.toUInt64 &&& Int64.toUInt64 4294967295).toNat = _
  rw [UInt64.toNat_and]
  exact Nat.and_two_pow_sub_one_eq_mod _ 32
theorem uN_bit (x : Int64) : (x &&& 1) = 0 ↔ uN x % 2 = 0 := by
  have h : uN (x &&& 1) = uN x % 2 := by
    show (x.toUInt64 &&& Int64.toUInt64 1).toNat = _
    rw [UInt64.toNat_and]
    exact Nat.and_two_pow_sub_one_eq_mod _ 1
  rw [← h]
  exact ⟨fun z => by rw [z]; rfl, fun z => uN_inj (z.trans rfl)⟩
theorem uN_or {x y : Int64} (hy : uN y < 2) : uN ((x <<< ((1 : Int32).toInt64 &&& 63)) ||| y) = (2 * uN x) % 18446744073709551616 + uN y := by
  have h1 : uN ((x <<< ((1 : Int32).toInt64 &&& 63)) ||| y) = uN (x <<< ((1 : Int32).toInt64 &&& 63)) ||| uN y := UInt64.toNat_or _ _
  have h2 : (2 * uN x) % 18446744073709551616 = 2 ^ 1 * (uN x % 9223372036854775808) := by omega
  rw [h1, uN_shl, h2]
  exact (Nat.two_pow_add_eq_or_of_lt (i := 1) hy _).symm
theorem nat_xor {a : Nat} (h : a < 18446744073709551616) : a ^^^ 2 ^ 63 = (a + 9223372036854775808) % 18446744073709551616 := by
  have h1 : (a ^^^ 2 ^ 63) % 2 ^ 63 = a % 2 ^ 63 := by rw [Nat.xor_mod_two_pow, Nat.mod_self, Nat.xor_zero]
  have h2 : (a ^^^ 2 ^ 63) / 2 ^ 63 = (a / 2 ^ 63) ^^^ 1 := by rw [Nat.xor_div_two_pow, Nat.div_self (Nat.two_pow_pos 63)]
  have h3 : a / 2 ^ 63 = 0 ∨ a / 2 ^ 63 = 1 := by omega
  generalize a ^^^ 2 ^ 63 = t at h1 h2
  rcases h3 with h3 | h3
  · rw [h3] at h2
    have h2 : t / 2 ^ 63 = 1 := h2
    omega
  · rw [h3] at h2
    have h2 : t / 2 ^ 63 = 0 := h2
    omega
theorem uN_xor (x : Int64) : uN (x ^^^ (-9223372036854775808)) = (uN x + 9223372036854775808) % 18446744073709551616 := by
  rw [← nat_xor (uN_lt x)]
  exact UInt64.toNat_xor _ _
theorem uN_int (x : Int64) : x.toInt = if 2 * uN x < 18446744073709551616 then (uN x : Int) else (uN x : Int) - 18446744073709551616 := BitVec.toInt_eq_toNat_cond _
theorem uN_le (x y : Int64) : (x ^^^ (-9223372036854775808)) ≤ (y ^^^ (-9223372036854775808)) ↔ uN x ≤ uN y := by
  have hx := uN_lt x
  have hy := uN_lt y
  rw [Int64.le_iff_toInt_le, uN_int, uN_int, uN_xor, uN_xor]
  omega
theorem uN_sk (x : Int64) {k : Nat} (hk : k < 64) : uN (x.toUInt64 >>> ((nI k).toInt64.toUInt64 &&& Int64.toUInt64 63)).toInt64 = uN x / 2 ^ k := by
  have h : ((nI k).toInt64.toUInt64 &&& Int64.toUInt64 63).toNat % 64 = k := by
    rw [nI_l (by omega), UInt64.toNat_and]
    have e : (lN k).toUInt64.toNat = k % 2 ^ 64 := rfl
    have e2 : (Int64.toUInt64 63).toNat = 2 ^ 6 - 1 := by decide
    rw [e, e2, Nat.and_two_pow_sub_one_eq_mod]
    omega
  rw [uN_shr, h]
/-! ===== unsigned comparison by xor with the least ===== -/
theorem lN_bv (n : Nat) : (lN n).toBitVec = BitVec.ofNat 64 n := rfl
theorem lN_nat {n : Nat} (h : n < 2 ^ 64) : (lN n).toBitVec.toNat = n := by rw [lN_bv, BitVec.toNat_ofNat]; exact Nat.mod_eq_of_lt h
theorem lN_xor (a b : Nat) : lN a ^^^ lN b = lN (a ^^^ b) := by
  apply Int64.toBitVec_inj.mp; rw [Int64.toBitVec_xor, lN_bv, lN_bv, lN_bv]; apply BitVec.eq_of_getLsbD_eq; intro i hi; simp [BitVec.getLsbD_ofNat, Nat.testBit_xor, hi]
theorem lN_ti {m : Nat} (h : m < 2 ^ 64) : (lN m).toInt = if m < 2 ^ 63 then (m : Int) else (m : Int) - 2 ^ 64 := by
  have c := BitVec.toInt_eq_toNat_cond (lN m).toBitVec
  rw [lN_nat h] at c
  show (lN m).toBitVec.toInt = _
  rw [c]
  split <;> split <;> omega
theorem xor63 {x : Nat} (h : x < 2 ^ 63) : x ^^^ 2 ^ 63 = 2 ^ 63 + x := by
  apply Nat.eq_of_testBit_eq
  intro i
  rw [Nat.testBit_xor, Nat.testBit_two_pow]
  rcases Nat.lt_trichotomy i 63 with z | z | z
  · rw [Nat.testBit_two_pow_add_gt z, decide_eq_false (by omega)]; simp
  · subst z; rw [Nat.testBit_two_pow_add_eq]; simp
  · have hp : 2 ^ 64 ≤ 2 ^ i := Nat.pow_le_pow_right (by decide) z
    rw [Nat.testBit_lt_two_pow (show x < 2 ^ i by omega), Nat.testBit_lt_two_pow (show 2 ^ 63 + x < 2 ^ i by omega), decide_eq_false (by omega)]; rfl
theorem xorS {a : Nat} (h : a < 2 ^ 64) : (lN a ^^^ (-9223372036854775808)).toInt = (a : Int) - 2 ^ 63 := by
  rw [show (-9223372036854775808 : Int64) = lN (2 ^ 63) from by decide +kernel, lN_xor]
  rcases Nat.lt_or_ge a (2 ^ 63) with z | z
  · rw [xor63 z, lN_ti (by omega), if_neg (by omega)]; omega
  · obtain ⟨x, rfl⟩ : ∃ x, a = 2 ^ 63 + x := ⟨a - 2 ^ 63, by omega⟩
    rw [← xor63 (by omega), Nat.xor_assoc, Nat.xor_self, Nat.xor_zero, lN_ti (by omega), if_pos (by omega), xor63 (by omega)]; omega
theorem ultL {a b : Nat} (ha : a < 2 ^ 64) (hb : b < 2 ^ 64) : ((lN b ^^^ (-9223372036854775808)) ≤ (lN a ^^^ (-9223372036854775808))) ↔ b ≤ a := by
  rw [Int64.le_iff_toInt_le, xorS ha, xorS hb]; omega
/-! ===== Int64 masks of n low bits ===== -/
theorem cr_bits (W U M : BitVec 64) : ((W &&& U) &&& (U &&& (M ^^^ BitVec.allOnes 64))) = 0#64 ↔ (W &&& U) &&& M = W &&& U := by
  constructor
  · intro h
    apply BitVec.eq_of_getLsbD_eq
    intro i hi
    have e := congrArg (fun x => BitVec.getLsbD x i) h
    simp only [BitVec.getLsbD_and, BitVec.getLsbD_xor, BitVec.getLsbD_allOnes, BitVec.getLsbD_zero, hi, decide_true] at e ⊢
    revert e
    cases W.getLsbD i <;> cases U.getLsbD i <;> cases M.getLsbD i <;> decide
  · intro h
    apply BitVec.eq_of_getLsbD_eq
    intro i hi
    have e := congrArg (fun x => BitVec.getLsbD x i) h
    simp only [BitVec.getLsbD_and, BitVec.getLsbD_xor, BitVec.getLsbD_allOnes, BitVec.getLsbD_zero, hi, decide_true] at e ⊢
    revert e
    cases W.getLsbD i <;> cases U.getLsbD i <;> cases M.getLsbD i <;> decide
theorem cr_mask (w U m : Int64) (n : Nat) (hm : m.toBitVec.toNat = 2 ^ n - 1) : ((w &&& U) &&& (U &&& (m ^^^ (-1)))) = 0 ↔ (w &&& U).toBitVec.toNat < 2 ^ n := by
  have e0 : (-1 : Int64).toBitVec = BitVec.allOnes 64 := by decide
  have z0 : (0 : Int64).toBitVec = 0#64 := by decide
  rw [← Int64.toBitVec_inj, z0, Int64.toBitVec_and, Int64.toBitVec_and, Int64.toBitVec_and, Int64.toBitVec_xor, e0, cr_bits]
  generalize w.toBitVec &&& U.toBitVec = T
  rw [← BitVec.toNat_inj, BitVec.toNat_and, hm, Nat.and_two_pow_sub_one_eq_mod]
  constructor
  · intro h
    have t := Nat.mod_lt T.toNat (Nat.two_pow_pos n)
    rw [h] at t
    exact t
  · exact Nat.mod_eq_of_lt
theorem cr_shr (t : Int64) (x : UInt64) (n : Nat) (hx : x.toNat % 64 = n) : (t.toUInt64 >>> x).toInt64 = 0 ↔ t.toBitVec.toNat < 2 ^ n := by
  rw [← Int64.toBitVec_inj, ← BitVec.toNat_inj]
  show (t.toUInt64 >>> x).toNat = 0 ↔ t.toUInt64.toNat < 2 ^ n
  rw [UInt64.toNat_shiftRight, hx, Nat.shiftRight_eq_div_pow]
  constructor
  · intro h
    have d : t.toUInt64.toNat / 2 ^ n < 1 := by
      rw [h]
      decide
    have e := (Nat.div_lt_iff_lt_mul (Nat.two_pow_pos n)).mp d
    rw [Nat.one_mul] at e
    exact e
  · exact Nat.div_eq_of_lt
theorem cr_amt (s : Int64) : ∃ n, n < 64 ∧ s &&& 63 = lN n ∧ (s.toUInt64 &&& Int64.toUInt64 63).toNat % 64 = n := by
  have e : (s.toUInt64 &&& Int64.toUInt64 63).toNat = s.toUInt64.toNat % 2 ^ 6 := by
    rw [UInt64.toNat_and, show (Int64.toUInt64 63).toNat = 2 ^ 6 - 1 from by decide, Nat.and_two_pow_sub_one_eq_mod]
  refine ⟨s.toUInt64.toNat % 2 ^ 6, by omega, ?_, by omega⟩
  rw [← Int64.toBitVec_inj, ← BitVec.toNat_inj]
  show (s.toUInt64 &&& Int64.toUInt64 63).toNat = (BitVec.ofNat 64 (s.toUInt64.toNat % 2 ^ 6)).toNat
  rw [e, BitVec.toNat_ofNat]
  omega
end
section
section ZS
/-! the search, the stack of open blocks, the pieces -/
def zs_f (p : Nat → Bool) : Nat → Nat → Nat
  | 0, i => i
  | f + 1, i => if p i = true then i else zs_f p f (i + 1)
theorem zs_f_spec (p : Nat → Bool) : ∀ f i, i ≤ zs_f p f i ∧ zs_f p f i ≤ i + f ∧ (zs_f p f i < i + f → p (zs_f p f i) = true) ∧ (∀ k, i ≤ k → k < zs_f p f i → p k = false) := by
  intro f
  induction f with
  | zero => intro i; exact ⟨Nat.le_refl _, Nat.le_refl _, fun h => absurd h (Nat.lt_irrefl _), fun k h1 h2 => absurd h2 (by show ¬ k < i; omega)⟩
  | succ f ih =>
    intro i
    by_cases h : p i = true
    · have e : zs_f p (f + 1) i = i := if_pos h
      rw [e]
      exact ⟨Nat.le_refl _, by omega, fun _ => h, fun k h1 h2 => absurd h2 (by omega)⟩
    · have e : zs_f p (f + 1) i = zs_f p f (i + 1) := if_neg h
      rw [e]
      obtain ⟨h1, h2, h3, h4⟩ := ih (i + 1)
      refine ⟨by omega, by omega, fun g => h3 (by omega), fun k k1 k2 => ?_⟩
      by_cases hk : k = i
      · rw [hk]; exact Bool.eq_false_iff.mpr h
      · exact h4 k (by omega) k2
theorem zs_f_eq (p : Nat → Bool) {f i r : Nat} (h1 : i ≤ r) (h2 : r ≤ i + f) (h3 : r < i + f → p r = true) (h4 : ∀ k, i ≤ k → k < r → p k = false) : zs_f p f i = r := by
  obtain ⟨g1, g2, g3, g4⟩ := zs_f_spec p f i
  rcases Nat.lt_trichotomy (zs_f p f i) r with h | h | h
  · have a := g3 (by omega)
    have b := h4 _ g1 h
    rw [a] at b; cases b
  · exact h
  · have a := h3 (by omega)
    have b := g4 _ h1 h
    rw [a] at b; cases b
/-- the open blocks ahead of statement i, the innermost first -/
def zs_t (kd : Nat → Nat) : Nat → List Nat
  | 0 => []
  | i + 1 => if kd i = 6 ∨ kd i = 7 then i :: zs_t kd i else if kd i = 8 then (zs_t kd i).tail else zs_t kd i
def zs_WF (kd : Nat → Nat) (n : Nat) : Prop := (∀ i, i < n → kd i = 11 → zs_t kd i = []) ∧ (∀ i, i < n → kd i = 8 → zs_t kd i ≠ []) ∧ (∀ i, i ≤ n → (zs_t kd i).length ≤ 3) ∧ zs_t kd n = []
/-- the piece of place i: 0 the main one, s + 1 that of subroutine s -/
def zs_p (kd av : Nat → Nat) : Nat → Nat
  | 0 => 0
  | i + 1 => if kd i = 11 then av i + 1 else zs_p kd av i
variable {kd av : Nat → Nat} {n : Nat}
theorem zs_t_op {i : Nat} (h : kd i = 6 ∨ kd i = 7) : zs_t kd (i + 1) = i :: zs_t kd i := if_pos h
theorem zs_t_end {i : Nat} (h : kd i = 8) : zs_t kd (i + 1) = (zs_t kd i).tail := by
  show (if kd i = 6 ∨ kd i = 7 then i :: zs_t kd i else if kd i = 8 then (zs_t kd i).tail else zs_t kd i) = _
  rw [if_neg (by omega), if_pos h]
theorem zs_t_oth {i : Nat} (h6 : kd i ≠ 6) (h7 : kd i ≠ 7) (h8 : kd i ≠ 8) : zs_t kd (i + 1) = zs_t kd i := by
  show (if kd i = 6 ∨ kd i = 7 then i :: zs_t kd i else if kd i = 8 then (zs_t kd i).tail else zs_t kd i) = _
  rw [if_neg (by omega), if_neg h8]
theorem zs_suf : ∀ t l o os, zs_t kd t = l ++ o :: os → o < t ∧ (kd o = 6 ∨ kd o = 7) ∧ zs_t kd o = os ∧ ∀ k, o < k → k ≤ t → ∃ l', zs_t kd k = l' ++ o :: os := by
  intro t
  induction t with
  | zero =>
    intro l o os h
    have h' : ([] : List Nat) = l ++ o :: os := h
    cases l <;> cases h'
  | succ t ih =>
    intro l o os h
    have up : ∀ l2, zs_t kd t = l2 ++ o :: os → o < t + 1 ∧ (kd o = 6 ∨ kd o = 7) ∧ zs_t kd o = os ∧ ∀ k, o < k → k ≤ t + 1 → ∃ l', zs_t kd k = l' ++ o :: os := by
      intro l2 h2
      obtain ⟨a, b, c, d⟩ := ih l2 o os h2
      refine ⟨by omega, b, c, fun k k1 k2 => ?_⟩
      by_cases hk : k = t + 1
      · exact ⟨l, by rw [hk]; exact h⟩
      · exact d k k1 (by omega)
    by_cases h67 : kd t = 6 ∨ kd t = 7
    · rw [zs_t_op h67] at h
      cases l with
      | nil =>
        have e : t = o ∧ zs_t kd t = os := by
          have := List.cons.inj h
          exact ⟨this.1, this.2⟩
        obtain ⟨rfl, e2⟩ := e
        refine ⟨by omega, h67, e2, fun k k1 k2 => ⟨[], ?_⟩⟩
        have hk : k = t + 1 := by omega
        rw [hk, zs_t_op h67, e2]; rfl
      | cons x l =>
        have := List.cons.inj h
        exact up l this.2
    · by_cases h8 : kd t = 8
      · rw [zs_t_end h8] at h
        cases e : zs_t kd t with
        | nil => rw [e] at h; cases l <;> cases h
        | cons x r =>
          rw [e] at h
          have h2 : r = l ++ o :: os := h
          exact up (x :: l) (by rw [e, h2]; rfl)
      · rw [zs_t_oth (by omega) (by omega) h8] at h
        exact up l h
theorem zs_mem {t o : Nat} (h : o ∈ zs_t kd t) : ∃ l, zs_t kd t = l ++ o :: zs_t kd o := by
  obtain ⟨l, os, e⟩ := List.append_of_mem h
  obtain ⟨_, _, c, _⟩ := zs_suf t l o os e
  exact ⟨l, by rw [e, c]⟩
theorem zs_mem_lt {t o : Nat} (h : o ∈ zs_t kd t) : o < t ∧ (kd o = 6 ∨ kd o = 7) := by
  obtain ⟨l, e⟩ := zs_mem h
  obtain ⟨a, b, _⟩ := zs_suf t l o _ e
  exact ⟨a, b⟩
theorem zs_p_body {i : Nat} (h : kd i = 11) : zs_p kd av (i + 1) = av i + 1 := if_pos h
theorem zs_p_oth {i : Nat} (h : kd i ≠ 11) : zs_p kd av (i + 1) = zs_p kd av i := if_neg h
theorem zs_p_mem (hw : zs_WF kd n) {t o : Nat} (ht : t ≤ n) (h : o ∈ zs_t kd t) : zs_p kd av o = zs_p kd av t := by
  obtain ⟨l, e⟩ := zs_mem h
  obtain ⟨a, b, c, d⟩ := zs_suf t l o _ e
  have key : ∀ m, o + 1 + m ≤ t → zs_p kd av (o + 1 + m) = zs_p kd av o := by
    intro m
    induction m with
    | zero => intro _; exact zs_p_oth (by omega)
    | succ m ih =>
      intro hm
      have i1 := ih (by omega)
      rw [← i1]
      refine zs_p_oth (i := o + 1 + m) ?_
      intro hk
      have e0 := hw.1 (o + 1 + m) (by omega) hk
      obtain ⟨l', e'⟩ := d (o + 1 + m) (by omega) (by omega)
      rw [e0] at e'
      cases l' <;> cases e'
  have := key (t - (o + 1)) (by omega)
  rw [show o + 1 + (t - (o + 1)) = t by omega] at this
  exact this.symm
/-- an END closes the block of the opener o -/
theorem zs_close {t o : Nat} {os : List Nat} (h8 : kd t = 8) (e : zs_t kd t = o :: os) : zs_t kd (t + 1) = os ∧ zs_t kd o = os ∧ o < t ∧ (kd o = 6 ∨ kd o = 7) ∧ ∀ k, o < k → k ≤ t → ∃ l', zs_t kd k = l' ++ o :: os := by
  obtain ⟨a, b, c, d⟩ := zs_suf t [] o os e
  refine ⟨?_, c, a, b, d⟩
  rw [zs_t_end h8, e]; rfl
/-- the END of the opener o -/
def zs_en (kd : Nat → Nat) (n o : Nat) : Nat := zs_f (fun k => (zs_t kd (k + 1)).length == (zs_t kd o).length) (n - o) o
theorem zs_en_eq {t o : Nat} {os : List Nat} (ht : t < n) (h8 : kd t = 8) (e : zs_t kd t = o :: os) : zs_en kd n o = t := by
  obtain ⟨a, b, c, _, d⟩ := zs_close h8 e
  refine zs_f_eq _ (by omega) (by omega) (fun _ => ?_) (fun k k1 k2 => ?_)
  · show ((zs_t kd (t + 1)).length == (zs_t kd o).length) = true
    rw [a, b]; exact beq_self_eq_true _
  · show ((zs_t kd (k + 1)).length == (zs_t kd o).length) = false
    obtain ⟨l', e'⟩ := d (k + 1) (by omega) (by omega)
    rw [e', b]
    rw [beq_eq_false_iff_ne, List.length_append, List.length_cons]
    omega
/-- every opener of a well formed source has its END -/
theorem zs_has (hw : zs_WF kd n) {o : Nat} (ho : o < n) (hk : kd o = 6 ∨ kd o = 7) : ∃ t, o < t ∧ t < n ∧ kd t = 8 ∧ zs_t kd t = o :: zs_t kd o := by
  have key : ∀ m, ∀ t, t + m = n → o < t → (∃ l, zs_t kd t = l ++ o :: zs_t kd o) → ∃ t, o < t ∧ t < n ∧ kd t = 8 ∧ zs_t kd t = o :: zs_t kd o := by
    intro m
    induction m with
    | zero =>
      intro t ht _ ⟨l, hl⟩
      have e : t = n := by omega
      rw [e, hw.2.2.2] at hl
      cases l <;> cases hl
    | succ m ih =>
      intro t ht hot ⟨l, hl⟩
      by_cases h67 : kd t = 6 ∨ kd t = 7
      · exact ih (t + 1) (by omega) (by omega) ⟨t :: l, by rw [zs_t_op h67, hl]; rfl⟩
      · by_cases h8 : kd t = 8
        · cases l with
          | nil => exact ⟨t, hot, by omega, h8, hl⟩
          | cons x l => exact ih (t + 1) (by omega) (by omega) ⟨l, by rw [zs_t_end h8, hl]; rfl⟩
        · exact ih (t + 1) (by omega) (by omega) ⟨l, by rw [zs_t_oth (by omega) (by omega) h8, hl]⟩
  exact key (n - (o + 1)) (o + 1) (by omega) (by omega) ⟨[], by rw [zs_t_op hk]; rfl⟩
theorem zs_en_has (hw : zs_WF kd n) {o : Nat} (ho : o < n) (hk : kd o = 6 ∨ kd o = 7) : o < zs_en kd n o ∧ zs_en kd n o < n ∧ kd (zs_en kd n o) = 8 ∧ zs_t kd (zs_en kd n o) = o :: zs_t kd o ∧ zs_t kd (zs_en kd n o + 1) = zs_t kd o := by
  obtain ⟨t, h1, h2, h3, h4⟩ := zs_has hw ho hk
  rw [zs_en_eq h2 h3 h4]
  exact ⟨h1, h2, h3, h4, (zs_close h3 h4).1⟩
/-- a place's piece ends at the next BODY, or at n -/
def zs_e (kd : Nat → Nat) (n i : Nat) : Nat := zs_f (fun k => kd k == 11) (n - i) i
theorem zs_e_next {i : Nat} (hi : i < n) (hk : kd i ≠ 11) : zs_e kd n i = zs_e kd n (i + 1) := by
  have e : n - i = (n - (i + 1)) + 1 := by omega
  show zs_f _ (n - i) i = _
  rw [e]
  exact if_neg (by show ¬ (kd i == 11) = true; rw [beq_iff_eq]; exact hk)
theorem zs_e_at {i : Nat} (hi : i ≤ n) (hk : i < n → kd i = 11) : zs_e kd n i = i := by
  refine zs_f_eq _ (Nat.le_refl _) (by omega) (fun h => ?_) (fun k k1 k2 => absurd k2 (by omega))
  show (kd i == 11) = true
  rw [beq_iff_eq]; exact hk (by omega)
theorem zs_e_spec (kd : Nat → Nat) (n : Nat) {i : Nat} (hi : i ≤ n) : i ≤ zs_e kd n i ∧ zs_e kd n i ≤ n ∧ (zs_e kd n i < n → kd (zs_e kd n i) = 11) ∧ (∀ k, i ≤ k → k < zs_e kd n i → kd k ≠ 11) := by
  obtain ⟨a, b, c, d⟩ := zs_f_spec (fun k => kd k == 11) (n - i) i
  refine ⟨a, ?_, fun h => ?_, fun k k1 k2 => ?_⟩
  · have : zs_e kd n i ≤ i + (n - i) := b
    omega
  · have := c (by have h' : zs_f (fun k => kd k == 11) (n - i) i < n := h; omega)
    exact beq_iff_eq.mp this
  · have := d k k1 k2
    exact beq_eq_false_iff_ne.mp this
theorem zs_e_same {i j : Nat} (hj : j ≤ n) (hij : i ≤ j) (h : ∀ k, i ≤ k → k < j → kd k ≠ 11) : zs_e kd n i = zs_e kd n j := by
  have key : ∀ m, ∀ i, i + m = j → (∀ k, i ≤ k → k < j → kd k ≠ 11) → zs_e kd n i = zs_e kd n j := by
    intro m
    induction m with
    | zero => intro i e _; rw [show i = j by omega]
    | succ m ih =>
      intro i e h
      rw [zs_e_next (by omega) (h i (Nat.le_refl _) (by omega))]
      exact ih (i + 1) (by omega) (fun k k1 k2 => h k (by omega) k2)
  exact key (j - i) i (by omega) h
/-- the BODY of subroutine s, n if there is none; the place behind it -/
def zs_b (kd av : Nat → Nat) (n s : Nat) : Nat := zs_f (fun k => kd k == 11 && av k == s) n 0
def zs_pl (kd av : Nat → Nat) (n s : Nat) : Nat := if zs_b kd av n s < n then zs_b kd av n s + 1 else n
theorem zs_b_spec (kd av : Nat → Nat) (n s : Nat) : zs_b kd av n s ≤ n ∧ (zs_b kd av n s < n → kd (zs_b kd av n s) = 11 ∧ av (zs_b kd av n s) = s) ∧ (∀ k, k < zs_b kd av n s → ¬ (kd k = 11 ∧ av k = s)) := by
  obtain ⟨_, b, c, d⟩ := zs_f_spec (fun k => kd k == 11 && av k == s) n 0
  refine ⟨?_, fun h => ?_, fun k k2 h => ?_⟩
  · have : zs_b kd av n s ≤ 0 + n := b
    omega
  · have := c (by have h' : zs_f (fun k => kd k == 11 && av k == s) n 0 < n := h; omega)
    rw [Bool.and_eq_true, beq_iff_eq, beq_iff_eq] at this
    exact this
  · have e := d k (Nat.zero_le _) k2
    have e2 : (kd k == 11 && av k == s) = true := by rw [Bool.and_eq_true, beq_iff_eq, beq_iff_eq]; exact h
    rw [e2] at e; cases e
theorem zs_b_eq {s i : Nat} (hi : i < n) (h : kd i = 11 ∧ av i = s) (hk : ∀ k, k < i → ¬ (kd k = 11 ∧ av k = s)) : zs_b kd av n s = i := by
  refine zs_f_eq _ (Nat.zero_le _) (by omega) (fun _ => ?_) (fun k _ k2 => ?_)
  · show (kd i == 11 && av i == s) = true
    rw [Bool.and_eq_true, beq_iff_eq, beq_iff_eq]; exact h
  · have := hk k k2
    cases e : (kd k == 11 && av k == s) with
    | false => rfl
    | true => rw [Bool.and_eq_true, beq_iff_eq, beq_iff_eq] at e; exact absurd e this
theorem zs_b_none {s : Nat} (hk : ∀ k, k < n → ¬ (kd k = 11 ∧ av k = s)) : zs_b kd av n s = n := by
  obtain ⟨a, b, _⟩ := zs_b_spec kd av n s
  by_cases h : zs_b kd av n s < n
  · exact absurd (b h) (hk _ h)
  · omega
theorem zs_pl_le (s : Nat) : zs_pl kd av n s ≤ n := by
  unfold zs_pl
  split <;> omega
theorem zs_pl_p {s : Nat} (h : zs_b kd av n s < n) : zs_pl kd av n s = zs_b kd av n s + 1 ∧ zs_p kd av (zs_pl kd av n s) = s + 1 := by
  obtain ⟨_, b, _⟩ := zs_b_spec kd av n s
  have e : zs_pl kd av n s = zs_b kd av n s + 1 := if_pos h
  refine ⟨e, ?_⟩
  rw [e, zs_p_body (b h).1, (b h).2]
end ZS
end
section
section ZW
/-! the weights from a place to the ends of its open blocks, the innermost first -/
def zw_pa (kd av : Nat → Nat) (i : Nat) : Nat := if kd i = 7 then av i else 1
def zw_s (kd av W : Nat → Nat) (i : Nat) (l : List Nat) : List Nat :=
  if kd i = 11 then [0] else if kd i = 8 then 0 :: l else if kd i = 6 ∨ kd i = 7 then (2 + zw_pa kd av i * l.headD 0 + l.tail.headD 0) :: l.tail.tail else if kd i = 9 then (1 + W (av i) + l.headD 0) :: l.tail else (1 + l.headD 0) :: l.tail
def zw_d (kd av W : Nat → Nat) (n : Nat) : Nat → List Nat
  | 0 => [0]
  | d + 1 => zw_s kd av W (n - (d + 1)) (zw_d kd av W n d)
def zw (kd av W : Nat → Nat) (n i : Nat) : List Nat := zw_d kd av W n (n - i)
variable {kd av W W' : Nat → Nat} {n : Nat}
theorem zw_n : zw kd av W n n = [0] := by
  unfold zw
  rw [Nat.sub_self]; rfl
theorem zw_step {i : Nat} (hi : i < n) : zw kd av W n i = zw_s kd av W i (zw kd av W n (i + 1)) := by
  unfold zw
  have e : n - i = (n - (i + 1)) + 1 := by omega
  rw [e]
  show zw_s kd av W (n - ((n - (i + 1)) + 1)) _ = _
  rw [show n - ((n - (i + 1)) + 1) = i by omega]
theorem zw_body {i : Nat} (hi : i < n) (h : kd i = 11) : zw kd av W n i = [0] := by
  rw [zw_step hi]; exact if_pos h
theorem zw_end {i : Nat} (hi : i < n) (h : kd i = 8) : zw kd av W n i = 0 :: zw kd av W n (i + 1) := by
  rw [zw_step hi]; unfold zw_s; rw [if_neg (by omega), if_pos h]
theorem zw_open {i : Nat} (hi : i < n) (h : kd i = 6 ∨ kd i = 7) : zw kd av W n i = (2 + zw_pa kd av i * (zw kd av W n (i + 1)).headD 0 + (zw kd av W n (i + 1)).tail.headD 0) :: (zw kd av W n (i + 1)).tail.tail := by
  rw [zw_step hi]; unfold zw_s; rw [if_neg (by omega), if_neg (by omega), if_pos h]
theorem zw_call {i : Nat} (hi : i < n) (h : kd i = 9) : zw kd av W n i = (1 + W (av i) + (zw kd av W n (i + 1)).headD 0) :: (zw kd av W n (i + 1)).tail := by
  rw [zw_step hi]; unfold zw_s; rw [if_neg (by omega), if_neg (by omega), if_neg (by omega), if_pos h]
theorem zw_plain {i : Nat} (hi : i < n) (h6 : kd i ≠ 6) (h7 : kd i ≠ 7) (h8 : kd i ≠ 8) (h9 : kd i ≠ 9) (h11 : kd i ≠ 11) : zw kd av W n i = (1 + (zw kd av W n (i + 1)).headD 0) :: (zw kd av W n (i + 1)).tail := by
  rw [zw_step hi]; unfold zw_s; rw [if_neg (by omega), if_neg (by omega), if_neg (by omega), if_neg (by omega)]
/-- induction from the end -/
theorem zw_ind {P : Nat → Prop} (h0 : P n) (hs : ∀ i, i < n → P (i + 1) → P i) : ∀ i, i ≤ n → P i := by
  have key : ∀ d i, i + d = n → P i := by
    intro d
    induction d with
    | zero => intro i e; rw [show i = n by omega]; exact h0
    | succ d ih => intro i e; exact hs i (by omega) (ih (i + 1) (by omega))
  intro i hi
  exact key (n - i) i (by omega)
theorem zw_len (hw : zs_WF kd n) : ∀ i, i ≤ n → (zw kd av W n i).length = (zs_t kd i).length + 1 := by
  refine zw_ind ?_ ?_
  · rw [zw_n, hw.2.2.2]; rfl
  · intro i hi ih
    by_cases h11 : kd i = 11
    · rw [zw_body hi h11, hw.1 i hi h11]; rfl
    · by_cases h8 : kd i = 8
      · have h2 := hw.2.1 i hi h8
        rw [zs_t_end h8] at ih
        rw [zw_end hi h8, List.length_cons, ih]
        cases e : zs_t kd i with
        | nil => exact absurd e h2
        | cons x r => rfl
      · by_cases h67 : kd i = 6 ∨ kd i = 7
        · rw [zs_t_op h67, List.length_cons] at ih
          rw [zw_open hi h67, List.length_cons, List.length_tail, List.length_tail]
          omega
        · rw [zs_t_oth (by omega) (by omega) h8] at ih
          by_cases h9 : kd i = 9
          · rw [zw_call hi h9, List.length_cons, List.length_tail]; omega
          · rw [zw_plain hi (by omega) (by omega) h8 h9 h11, List.length_cons, List.length_tail]; omega
/-- from an opener's inside on, the list goes on with that behind its END -/
theorem zw_match (hw : zs_WF kd n) {t o : Nat} {os : List Nat} (ht : t < n) (h8 : kd t = 8) (e : zs_t kd t = o :: os) : (zw kd av W n (o + 1)).tail = zw kd av W n (t + 1) := by
  obtain ⟨c1, c2, c3, c4, c5⟩ := zs_close h8 e
  have key : ∀ m, ∀ k, k + m = t → o < k → (zw kd av W n k).drop ((zs_t kd k).length - os.length) = zw kd av W n (t + 1) := by
    intro m
    induction m with
    | zero =>
      intro k hk _
      have hk' : k = t := by omega
      rw [hk', e, zw_end ht h8, List.length_cons, show os.length + 1 - os.length = 1 by omega]
      rfl
    | succ m ih =>
      intro k hk hok
      have i1 := ih (k + 1) (by omega) (by omega)
      have hkn : k < n := by omega
      obtain ⟨l, hl⟩ := c5 k hok (by omega)
      obtain ⟨l2, hl2⟩ := c5 (k + 1) (by omega) (by omega)
      have L1 : (zs_t kd k).length = l.length + (os.length + 1) := by rw [hl, List.length_append, List.length_cons]
      have L2 : (zs_t kd (k + 1)).length = l2.length + (os.length + 1) := by rw [hl2, List.length_append, List.length_cons]
      have W1 := zw_len (av := av) (W := W) hw (k + 1) (by omega)
      have h11 : kd k ≠ 11 := by
        intro h
        have := hw.1 k hkn h
        rw [this] at L1
        simp only [List.length_nil] at L1
        omega
      rw [← i1]
      by_cases h8' : kd k = 8
      · have E : (zs_t kd k).length = (zs_t kd (k + 1)).length + 1 := by
          rw [zs_t_end h8', List.length_tail]; omega
        rw [zw_end hkn h8', E, show (zs_t kd (k + 1)).length + 1 - os.length = ((zs_t kd (k + 1)).length - os.length) + 1 by omega]
        rfl
      · by_cases h67 : kd k = 6 ∨ kd k = 7
        · have E : (zs_t kd (k + 1)).length = (zs_t kd k).length + 1 := by rw [zs_t_op h67, List.length_cons]
          rw [zw_open hkn h67, E]
          obtain ⟨q, hq⟩ : ∃ q, (zs_t kd k).length - os.length = q + 1 := ⟨(zs_t kd k).length - os.length - 1, by omega⟩
          rw [hq, show (zs_t kd k).length + 1 - os.length = q + 1 + 1 by omega, List.drop_succ_cons]
          cases zz : zw kd av W n (k + 1) with
          | nil => rw [zz] at W1; cases W1
          | cons a r =>
            cases r with
            | nil => rw [zz, E] at W1; simp only [List.length_cons, List.length_nil] at W1; omega
            | cons b r => rfl
        · have E : zs_t kd (k + 1) = zs_t kd k := zs_t_oth (by omega) (by omega) h8'
          obtain ⟨q, hq⟩ : ∃ q, (zs_t kd k).length - os.length = q + 1 := ⟨(zs_t kd k).length - os.length - 1, by omega⟩
          rw [E, hq]
          by_cases h9 : kd k = 9
          · rw [zw_call hkn h9, List.drop_succ_cons]
            cases zw kd av W n (k + 1) <;> simp
          · rw [zw_plain hkn (by omega) (by omega) h8' h9 h11, List.drop_succ_cons]
            cases zw kd av W n (k + 1) <;> simp
  have := key (t - (o + 1)) (o + 1) (by omega) (by omega)
  rw [zs_t_op c4, c2, List.length_cons, show os.length + 1 - os.length = 1 by omega, List.drop_one] at this
  exact this
/-- only the weights of what the piece calls count -/
theorem zw_congr : ∀ i, i ≤ n → (∀ j, i ≤ j → j < n → zs_p kd av j = zs_p kd av i → kd j = 9 → W (av j) = W' (av j)) → zw kd av W n i = zw kd av W' n i := by
  refine zw_ind ?_ ?_
  · intro _; rw [zw_n, zw_n]
  · intro i hi ih h
    by_cases h11 : kd i = 11
    · rw [zw_body hi h11, zw_body hi h11]
    · have e := ih (fun j j1 j2 j3 j4 => h j (by omega) j2 (by rw [j3]; exact zs_p_oth h11) j4)
      rw [zw_step hi, zw_step hi, e]
      unfold zw_s
      rw [if_neg h11, if_neg h11]
      by_cases h9 : kd i = 9
      · rw [h i (Nat.le_refl _) hi rfl h9]
      · rw [if_neg h9, if_neg h9]
/-- a bound: each weight at depth d counted 5 ^ d times -/
def zw_sum : List Nat → Nat
  | [] => 0
  | x :: r => 5 ^ r.length * x + zw_sum r
theorem zw_bound (hw : zs_WF kd n) (ha : ∀ i, i < n → kd i = 7 → av i ≤ 5) {B : Nat} : ∀ i, i ≤ n → (∀ j, i ≤ j → j < n → zs_p kd av j = zs_p kd av i → kd j = 9 → W (av j) ≤ B) → zw_sum (zw kd av W n i) ≤ 125 * (1 + B) * (n - i) := by
  refine zw_ind ?_ ?_
  · intro _; rw [zw_n]; exact Nat.zero_le _
  · intro i hi ih h
    by_cases h11 : kd i = 11
    · rw [zw_body hi h11]; exact Nat.zero_le _
    · have ih := ih (fun j j1 j2 j3 j4 => h j (by omega) j2 (by rw [j3]; exact zs_p_oth h11) j4)
      have L := zw_len (av := av) (W := W) hw (i + 1) (by omega)
      have D := hw.2.2.1 (i + 1) (by omega)
      have N : 125 * (1 + B) * (n - i) = 125 * (1 + B) * (n - (i + 1)) + 125 * (1 + B) := by
        rw [show n - i = (n - (i + 1)) + 1 by omega, Nat.mul_add, Nat.mul_one]
      rw [N]
      cases zz : zw kd av W n (i + 1) with
      | nil => rw [zz] at L; cases L
      | cons x r =>
        rw [zz] at ih L
        have L' : r.length = (zs_t kd (i + 1)).length := by rw [List.length_cons] at L; omega
        have P : 5 ^ r.length ≤ 125 := by
          have : r.length ≤ 3 := by omega
          calc 5 ^ r.length ≤ 5 ^ 3 := Nat.pow_le_pow_right (by omega) this
            _ = 125 := by decide
        have ih' : 5 ^ r.length * x + zw_sum r ≤ 125 * (1 + B) * (n - (i + 1)) := ih
        by_cases h8 : kd i = 8
        · rw [zw_end hi h8, zz]
          show 5 ^ (r.length + 1) * 0 + (5 ^ r.length * x + zw_sum r) ≤ _
          omega
        · by_cases h67 : kd i = 6 ∨ kd i = 7
          · rw [zw_open hi h67, zz]
            cases r with
            | nil => rw [zs_t_op h67] at L'; cases L'
            | cons y r =>
              show 5 ^ r.length * (2 + zw_pa kd av i * x + y) + zw_sum r ≤ _
              have ih2 : 5 ^ (r.length + 1) * x + (5 ^ r.length * y + zw_sum r) ≤ 125 * (1 + B) * (n - (i + 1)) := ih'
              have P2 : 5 ^ r.length * 5 ≤ 125 := P
              have pa5 : zw_pa kd av i ≤ 5 := by
                unfold zw_pa
                split
                · exact ha i hi (by assumption)
                · omega
              have M : 5 ^ r.length * (zw_pa kd av i * x) ≤ 5 ^ (r.length + 1) * x := by
                rw [Nat.pow_succ, Nat.mul_assoc]
                exact Nat.mul_le_mul_left _ (Nat.mul_le_mul_right _ pa5)
              have M2 : 125 * 1 ≤ 125 * (1 + B) := Nat.mul_le_mul_left _ (by omega)
              rw [Nat.mul_add, Nat.mul_add]
              omega
          · by_cases h9 : kd i = 9
            · rw [zw_call hi h9, zz]
              show 5 ^ r.length * (1 + W (av i) + x) + zw_sum r ≤ _
              have hB := h i (Nat.le_refl _) hi rfl h9
              have M : 5 ^ r.length * (1 + W (av i)) ≤ 125 * (1 + B) := Nat.mul_le_mul P (by omega)
              rw [Nat.mul_add]
              omega
            · rw [zw_plain hi (by omega) (by omega) h8 h9 h11, zz]
              show 5 ^ r.length * (1 + x) + zw_sum r ≤ _
              have M2 : 125 * 1 ≤ 125 * (1 + B) := Nat.mul_le_mul_left _ (by omega)
              rw [Nat.mul_add]
              omega
theorem zw_head (l : List Nat) : l.headD 0 ≤ zw_sum l := by
  cases l with
  | nil => exact Nat.zero_le _
  | cons x r =>
    show x ≤ 5 ^ r.length * x + zw_sum r
    have : 1 * x ≤ 5 ^ r.length * x := Nat.mul_le_mul_right _ (Nat.pow_le_pow_right (n := 5) (by omega) (Nat.zero_le r.length))
    omega
/-- what is still to do: lf o passes are left at the open block o -/
def zw_pot (kd av W : Nat → Nat) (n : Nat) (lf : Nat → Nat) : List Nat → List Nat → Nat
  | [], l => 3 * l.headD 0
  | o :: os, l => 3 * l.headD 0 + (1 + (lf o - 1) * (3 * (zw kd av W n (o + 1)).headD 0 + 1)) + zw_pot kd av W n lf os l.tail
def zw_P (kd av W : Nat → Nat) (n : Nat) (lf : Nat → Nat) (i : Nat) : Nat := zw_pot kd av W n lf (zs_t kd i) (zw kd av W n i)
variable {lf lf' : Nat → Nat}
theorem zw_pot_congr : ∀ os l, (∀ o, o ∈ os → lf o = lf' o) → zw_pot kd av W n lf os l = zw_pot kd av W n lf' os l := by
  intro os
  induction os with
  | nil => intro l _; rfl
  | cons o os ih =>
    intro l h
    show _ + (1 + (lf o - 1) * _) + zw_pot kd av W n lf os l.tail = _ + (1 + (lf' o - 1) * _) + zw_pot kd av W n lf' os l.tail
    rw [h o (List.mem_cons_self ..), ih l.tail (fun o ho => h o (List.mem_cons_of_mem _ ho))]
theorem zw_P_congr {i : Nat} (h : ∀ o, o ∈ zs_t kd i → lf o = lf' o) : zw_P kd av W n lf i = zw_P kd av W n lf' i := zw_pot_congr _ _ h
theorem zw_pot_cons (os : List Nat) (x y : Nat) (r : List Nat) : zw_pot kd av W n lf os ((x + y) :: r) = 3 * x + zw_pot kd av W n lf os (y :: r) := by
  cases os with
  | nil => show 3 * (x + y) = 3 * x + 3 * y; omega
  | cons o os =>
    show 3 * (x + y) + (1 + (lf o - 1) * (3 * (zw kd av W n (o + 1)).headD 0 + 1)) + zw_pot kd av W n lf os r = 3 * x + (3 * y + (1 + (lf o - 1) * (3 * (zw kd av W n (o + 1)).headD 0 + 1)) + zw_pot kd av W n lf os r)
    omega
theorem zw_pot_eta (os : List Nat) (l : List Nat) (h : l ≠ []) : zw_pot kd av W n lf os (l.headD 0 :: l.tail) = zw_pot kd av W n lf os l := by
  cases l with
  | nil => exact absurd rfl h
  | cons x r => rfl
theorem zw_ne (hw : zs_WF kd n) {i : Nat} (hi : i ≤ n) : zw kd av W n i ≠ [] := by
  intro h
  have := zw_len (av := av) (W := W) hw i hi
  rw [h] at this; cases this
theorem zw_P_plain (hw : zs_WF kd n) {i : Nat} (hi : i < n) (h6 : kd i ≠ 6) (h7 : kd i ≠ 7) (h8 : kd i ≠ 8) (h9 : kd i ≠ 9) (h11 : kd i ≠ 11) : zw_P kd av W n lf i = 3 + zw_P kd av W n lf (i + 1) := by
  unfold zw_P
  rw [zw_plain hi h6 h7 h8 h9 h11, zs_t_oth h6 h7 h8, zw_pot_cons, zw_pot_eta _ _ (zw_ne hw (by omega))]
theorem zw_P_call (hw : zs_WF kd n) {i : Nat} (hi : i < n) (h9 : kd i = 9) : zw_P kd av W n lf i = 3 * (1 + W (av i)) + zw_P kd av W n lf (i + 1) := by
  unfold zw_P
  rw [zw_call hi h9, zs_t_oth (by omega) (by omega) (by omega), zw_pot_cons, zw_pot_eta _ _ (zw_ne hw (by omega))]
theorem zw_two (hw : zs_WF kd n) {i : Nat} (hi : i < n) (h : kd i = 6 ∨ kd i = 7) : ∃ x y r, zw kd av W n (i + 1) = x :: y :: r := by
  have L := zw_len (av := av) (W := W) hw (i + 1) (by omega)
  rw [zs_t_op h, List.length_cons] at L
  cases zz : zw kd av W n (i + 1) with
  | nil => rw [zz] at L; cases L
  | cons x r =>
    cases r with
    | nil => rw [zz] at L; simp only [List.length_cons, List.length_nil] at L; omega
    | cons y r => exact ⟨x, y, r, rfl⟩
theorem zw_P_open (hw : zs_WF kd n) {i : Nat} (hi : i < n) (h : kd i = 6 ∨ kd i = 7) (hp : zw_pa kd av i ≤ 5) (h1 : 1 ≤ zw_pa kd av i) (hl : lf' i = zw_pa kd av i) (hc : ∀ o, o ∈ zs_t kd i → lf o = lf' o) : zw_P kd av W n lf' (i + 1) + 1 ≤ zw_P kd av W n lf i := by
  obtain ⟨x, y, r, e⟩ := zw_two (av := av) (W := W) hw hi h
  unfold zw_P
  rw [zw_open hi h, zs_t_op h, e]
  show 3 * x + (1 + (lf' i - 1) * (3 * (zw kd av W n (i + 1)).headD 0 + 1)) + zw_pot kd av W n lf' (zs_t kd i) (y :: r) + 1 ≤ zw_pot kd av W n lf (zs_t kd i) ((2 + zw_pa kd av i * x + y) :: r)
  rw [zw_pot_cons, zw_pot_congr _ _ hc, e, hl]
  show 3 * x + (1 + (zw_pa kd av i - 1) * (3 * x + 1)) + _ + 1 ≤ _
  generalize zw_pot kd av W n lf' (zs_t kd i) (y :: r) = Q
  obtain ⟨p, hp2⟩ : ∃ p, zw_pa kd av i = p + 1 := ⟨zw_pa kd av i - 1, by omega⟩
  rw [hp2] at hp ⊢
  rw [show p + 1 - 1 = p by omega, Nat.mul_add, Nat.add_mul, Nat.mul_one, Nat.one_mul, show p * (3 * x) = 3 * (p * x) from Nat.mul_left_comm p 3 x]
  omega
theorem zw_P_skip (hw : zs_WF kd n) {i t : Nat} (hi : i < n) (h : kd i = 6 ∨ kd i = 7) (ht : t < n) (h8 : kd t = 8) (e : zs_t kd t = i :: zs_t kd i) : zw_P kd av W n lf (t + 1) + 1 ≤ zw_P kd av W n lf i := by
  obtain ⟨x, y, r, e2⟩ := zw_two (av := av) (W := W) hw hi h
  have m := zw_match (av := av) (W := W) hw ht h8 e
  unfold zw_P
  rw [zw_open hi h, (zs_close h8 e).1, ← m, e2]
  show zw_pot kd av W n lf (zs_t kd i) (y :: r) + 1 ≤ zw_pot kd av W n lf (zs_t kd i) ((2 + zw_pa kd av i * x + y) :: r)
  rw [zw_pot_cons]
  omega
theorem zw_P_exit {t o : Nat} {os : List Nat} (ht : t < n) (h8 : kd t = 8) (e : zs_t kd t = o :: os) : zw_P kd av W n lf (t + 1) + 1 ≤ zw_P kd av W n lf t := by
  unfold zw_P
  rw [zw_end ht h8, (zs_close h8 e).1, e]
  show _ ≤ 3 * 0 + (1 + _) + zw_pot kd av W n lf os (zw kd av W n (t + 1))
  omega
theorem zw_P_again (hw : zs_WF kd n) {t o : Nat} {os : List Nat} (ht : t < n) (h8 : kd t = 8) (e : zs_t kd t = o :: os) (h2 : 2 ≤ lf o) (hl : lf' o = lf o - 1) (hc : ∀ q, q ∈ os → lf q = lf' q) : zw_P kd av W n lf' (o + 1) + 1 ≤ zw_P kd av W n lf t := by
  obtain ⟨c1, c2, c3, c4, _⟩ := zs_close h8 e
  have m := zw_match (av := av) (W := W) hw ht h8 e
  obtain ⟨x, y, r, e2⟩ := zw_two (av := av) (W := W) hw (Nat.lt_trans c3 ht) c4
  unfold zw_P
  rw [zw_end ht h8, e, zs_t_op c4, c2]
  show 3 * (zw kd av W n (o + 1)).headD 0 + (1 + (lf' o - 1) * (3 * (zw kd av W n (o + 1)).headD 0 + 1)) + zw_pot kd av W n lf' os (zw kd av W n (o + 1)).tail + 1 ≤ 3 * 0 + (1 + (lf o - 1) * (3 * (zw kd av W n (o + 1)).headD 0 + 1)) + zw_pot kd av W n lf os (zw kd av W n (t + 1))
  rw [m, zw_pot_congr _ _ hc, hl]
  obtain ⟨p, hp⟩ : ∃ p, lf o = p + 2 := ⟨lf o - 2, by omega⟩
  rw [hp, show p + 2 - 1 - 1 = p by omega, show p + 2 - 1 = p + 1 by omega, Nat.add_mul, Nat.one_mul]
  omega
end ZW
end
section
section ZV
/-! the weights of the bodies: sixteen turns settle them -/
def zv (kd av : Nat → Nat) (n : Nat) : Nat → Nat → Nat
  | 0 => fun _ => 0
  | t + 1 => fun s => if t % 4 = s then (zw kd av (zv kd av n t) n (zs_pl kd av n s)).headD 0 else zv kd av n t s
def zv_v (kd av : Nat → Nat) (n t s : Nat) : Nat := (zw kd av (zv kd av n t) n (zs_pl kd av n s)).headD 0
variable {kd av : Nat → Nat} {n : Nat}
theorem zv_at {t s : Nat} (h : t % 4 = s) : zv kd av n (t + 1) s = zv_v kd av n t s := if_pos h
theorem zv_else {t s : Nat} (h : t % 4 ≠ s) : zv kd av n (t + 1) s = zv kd av n t s := if_neg h
/-- callees are lower -/
def zv_H (kd av : Nat → Nat) (n : Nat) (ht : Nat → Nat) : Prop := (∀ s, s < 4 → ht s ≤ 3) ∧ ∀ j, j < n → kd j = 9 → av j < 4 ∧ ∀ s, zs_p kd av j = s + 1 → s < 4 → ht (av j) < ht s
theorem zv_cong {ht : Nat → Nat} (H : zv_H kd av n ht) {t t' s h : Nat} (hs : s < 4) (hh : ht s ≤ h) (hc : ∀ q, q < 4 → ht q < h → zv kd av n t q = zv kd av n t' q) : zv_v kd av n t s = zv_v kd av n t' s := by
  unfold zv_v
  by_cases hb : zs_b kd av n s < n
  · obtain ⟨_, hp⟩ := zs_pl_p hb
    rw [zw_congr _ (zs_pl_le s) (fun j _ j2 j3 j4 => ?_)]
    obtain ⟨a, b⟩ := H.2 j j2 j4
    have := b s (by rw [j3, hp]) hs
    exact hc _ a (by omega)
  · have e : zs_pl kd av n s = n := if_neg hb
    rw [e, zw_n, zw_n]
theorem zv_stable {ht : Nat → Nat} (H : zv_H kd av n ht) : ∀ h, (∀ s, s < 4 → ht s < h → ∀ t, 4 * h ≤ t → zv kd av n t s = zv kd av n (4 * h) s) ∧ (∀ s, s < 4 → ht s < h → ∀ t, 4 * h ≤ t → zv_v kd av n t s = zv kd av n t s) := by
  intro h
  induction h with
  | zero => exact ⟨fun s _ hs => absurd hs (by omega), fun s _ hs => absurd hs (by omega)⟩
  | succ h ih =>
    obtain ⟨ih1, ih2⟩ := ih
    have V : ∀ s, s < 4 → ht s ≤ h → ∀ t, 4 * h ≤ t → zv_v kd av n t s = zv_v kd av n (4 * h) s :=
      fun s hs hh t ht' => zv_cong H hs hh (fun q hq hq2 => ih1 q hq hq2 t ht')
    have A : ∀ s, s < 4 → ht s ≤ h → ∀ m, zv kd av n (4 * h + s + 1 + m) s = zv_v kd av n (4 * h) s := by
      intro s hs hh m
      induction m with
      | zero => rw [Nat.add_zero, zv_at (by omega), V s hs hh _ (by omega)]
      | succ m im =>
        by_cases hm : (4 * h + s + 1 + m) % 4 = s
        · rw [show 4 * h + s + 1 + (m + 1) = (4 * h + s + 1 + m) + 1 by omega, zv_at hm, V s hs hh _ (by omega)]
        · rw [show 4 * h + s + 1 + (m + 1) = (4 * h + s + 1 + m) + 1 by omega, zv_else hm, im]
    have A' : ∀ s, s < 4 → ht s ≤ h → ∀ t, 4 * (h + 1) ≤ t → zv kd av n t s = zv_v kd av n (4 * h) s := by
      intro s hs hh t ht'
      have := A s hs hh (t - (4 * h + s + 1))
      rw [show 4 * h + s + 1 + (t - (4 * h + s + 1)) = t by omega] at this
      exact this
    refine ⟨fun s hs hh t ht' => ?_, fun s hs hh t ht' => ?_⟩
    · rw [A' s hs (by omega) t ht', A' s hs (by omega) _ (Nat.le_refl _)]
    · rw [A' s hs (by omega) t ht', V s hs (by omega) t (by omega)]
theorem zv_fix {ht : Nat → Nat} (H : zv_H kd av n ht) {s : Nat} (hs : s < 4) : zv kd av n 16 s = (zw kd av (zv kd av n 16) n (zs_pl kd av n s)).headD 0 := ((zv_stable H 4).2 s hs (by have := H.1 s hs; omega) 16 (by omega)).symm
def zv_B : Nat → Nat
  | 0 => 6000
  | h + 1 => 6000 * (1 + zv_B h)
theorem zv_B_mono {a b : Nat} (h : a ≤ b) : zv_B a ≤ zv_B b := by
  induction b with
  | zero => rw [show a = 0 by omega]; exact Nat.le_refl _
  | succ b ih =>
    by_cases e : a = b + 1
    · rw [e]; exact Nat.le_refl _
    · have := ih (by omega)
      show zv_B a ≤ 6000 * (1 + zv_B b)
      omega
theorem zv_le {ht : Nat → Nat} (hw : zs_WF kd n) (hn : n ≤ 48) (ha : ∀ i, i < n → kd i = 7 → av i ≤ 5) (H : zv_H kd av n ht) : ∀ h s, s < 4 → ht s ≤ h → zv kd av n 16 s ≤ zv_B h := by
  intro h
  induction h with
  | zero =>
    intro s hs hh
    rw [zv_fix H hs]
    by_cases hb : zs_b kd av n s < n
    · obtain ⟨_, hp⟩ := zs_pl_p hb
      have := zw_bound (W := zv kd av n 16) (B := 0) hw ha _ (zs_pl_le s) (fun j _ j2 j3 j4 => by
        obtain ⟨a, b⟩ := H.2 j j2 j4
        have := b s (by rw [j3, hp]) hs
        omega)
      refine Nat.le_trans (zw_head _) (Nat.le_trans this ?_)
      show 125 * (1 + 0) * (n - zs_pl kd av n s) ≤ 6000
      omega
    · have e : zs_pl kd av n s = n := if_neg hb
      rw [e, zw_n]; exact Nat.zero_le _
  | succ h ih =>
    intro s hs hh
    rw [zv_fix H hs]
    by_cases hb : zs_b kd av n s < n
    · obtain ⟨_, hp⟩ := zs_pl_p hb
      have := zw_bound (W := zv kd av n 16) (B := zv_B h) hw ha _ (zs_pl_le s) (fun j _ j2 j3 j4 => by
        obtain ⟨a, b⟩ := H.2 j j2 j4
        have := b s (by rw [j3, hp]) hs
        exact ih _ a (by omega))
      refine Nat.le_trans (zw_head _) (Nat.le_trans this ?_)
      show 125 * (1 + zv_B h) * (n - zs_pl kd av n s) ≤ 6000 * (1 + zv_B h)
      rw [show 6000 * (1 + zv_B h) = 125 * (1 + zv_B h) * 48 by omega]
      exact Nat.mul_le_mul_left _ (by omega)
    · have e : zs_pl kd av n s = n := if_neg hb
      rw [e, zw_n]; exact Nat.zero_le _
theorem zv_main {ht : Nat → Nat} (hw : zs_WF kd n) (hn : n ≤ 48) (ha : ∀ i, i < n → kd i = 7 → av i ≤ 5) (H : zv_H kd av n ht) : (zw kd av (zv kd av n 16) n 0).headD 0 < 2 ^ 63 := by
  have := zw_bound (W := zv kd av n 16) (B := zv_B 3) hw ha 0 (Nat.zero_le _) (fun j _ j2 _ j4 => by
    obtain ⟨a, _⟩ := H.2 j j2 j4
    exact zv_le hw hn ha H 3 _ a (H.1 _ a))
  have h2 := Nat.le_trans (zw_head _) this
  have h3 : 125 * (1 + zv_B 3) * (n - 0) ≤ 125 * (1 + zv_B 3) * 48 := Nat.mul_le_mul_left _ (by omega)
  have h4 : 125 * (1 + zv_B 3) * 48 < 2 ^ 63 := by decide
  omega
end ZV
section ZR
/-! who reaches whom -/
def zr_x (D : Nat → Nat → Bool) : Nat → Nat → Nat → Bool
  | 0 => D
  | m + 1 => fun s u => zr_x D m s u || (zr_x D m s m && zr_x D m m u)
def zr_T (M : Nat → Nat → Bool) : Prop := ∀ s t u, t < 4 → M s t = true → M t u = true → M s u = true
def zr_sub (M N : Nat → Nat → Bool) : Prop := ∀ s u, s < 4 → u < 4 → M s u = true → N s u = true
variable {D M N : Nat → Nat → Bool}
theorem zr_xs (m s u : Nat) : zr_x D (m + 1) s u = (zr_x D m s u || (zr_x D m s m && zr_x D m m u)) := rfl
theorem zr_x_cl : ∀ m, ∀ s t u, t < m → zr_x D m s t = true → zr_x D m t u = true → zr_x D m s u = true := by
  intro m
  induction m with
  | zero => intro s t u h; omega
  | succ m ih =>
    intro s t u ht h1 h2
    rw [zr_xs] at h1 h2 ⊢
    by_cases e : t = m
    · subst e
      cases a : zr_x D t s t <;> cases b : zr_x D t t u <;> simp_all
    · have h3 := ih s t u (by omega)
      have h4 := ih s t m (by omega)
      have h5 := ih m t u (by omega)
      have h6 := ih m t m (by omega)
      revert h1 h2 h3 h4 h5 h6
      cases zr_x D m s t <;> cases zr_x D m t u <;> cases zr_x D m s u <;> cases zr_x D m s m <;> cases zr_x D m t m <;> cases zr_x D m m t <;> cases zr_x D m m u <;> simp
theorem zr_x_T : zr_T (zr_x D 4) := fun s t u ht h1 h2 => zr_x_cl 4 s t u ht h1 h2
theorem zr_x_mono {m s u : Nat} (h : D s u = true) : zr_x D m s u = true := by
  induction m with
  | zero => exact h
  | succ m ih => rw [zr_xs, ih]; rfl
/-- the height of s: how many it reaches -/
def zr_b (b : Bool) : Nat := if b = true then 1 else 0
def zr_h (M : Nat → Nat → Bool) (s : Nat) : Nat := zr_b (M s 0) + zr_b (M s 1) + zr_b (M s 2) + zr_b (M s 3)
theorem zr_b_le {a b : Bool} (h : a = true → b = true) : zr_b a ≤ zr_b b := by
  cases a <;> cases b <;> simp_all [zr_b]
theorem zr_h_lt (hT : zr_T M) (hI : ∀ s, s < 4 → M s s = false) {s t : Nat} (hs : s < 4) (ht : t < 4) (h : M s t = true) : zr_h M t < zr_h M s := by
  have m : ∀ u, M t u = true → M s u = true := fun u hu => hT s t u ht h hu
  have k := hI t ht
  have b0 := zr_b_le (m 0)
  have b1 := zr_b_le (m 1)
  have b2 := zr_b_le (m 2)
  have b3 := zr_b_le (m 3)
  have z : zr_b (M t t) = 0 := by rw [k]; rfl
  have o : zr_b (M s t) = 1 := by rw [h]; rfl
  unfold zr_h
  have c : t = 0 ∨ t = 1 ∨ t = 2 ∨ t = 3 := by omega
  rcases c with rfl | rfl | rfl | rfl <;> omega
theorem zr_b1 (b : Bool) : zr_b b ≤ 1 := by cases b <;> simp [zr_b]
theorem zr_h_le (hI : ∀ s, s < 4 → M s s = false) {s : Nat} (hs : s < 4) : zr_h M s ≤ 3 := by
  have k := hI s hs
  have z : zr_b (M s s) = 0 := by rw [k]; rfl
  have b0 := zr_b1 (M s 0)
  have b1 := zr_b1 (M s 1)
  have b2 := zr_b1 (M s 2)
  have b3 := zr_b1 (M s 3)
  unfold zr_h
  have c : s = 0 ∨ s = 1 ∨ s = 2 ∨ s = 3 := by omega
  rcases c with rfl | rfl | rfl | rfl <;> omega
end ZR
end
section
section ZC
/-! the layout of the compiled program -/
def zc_sz (kd : Nat → Nat) (i : Nat) : Nat :=
  if kd i = 0 then 2 else if kd i ≤ 3 then 3 else if kd i ≤ 5 then 6 else if kd i ≤ 7 then 2 else if kd i = 8 then (if kd ((zs_t kd i).headD 0) = 6 then 0 else 5) else if kd i = 9 then 2 else if kd i = 10 then 1 else 2
def zc_ad (kd : Nat → Nat) : Nat → Nat
  | 0 => 0
  | i + 1 => zc_ad kd i + zc_sz kd i
def zc_ps (kd : Nat → Nat) (i : Nat) : Nat := if kd i = 0 then 1 else if kd i = 7 then 2 else if kd i = 9 then 1 else 0
def zc_po (kd : Nat → Nat) : Nat → Nat
  | 0 => 840
  | i + 1 => zc_po kd i + zc_ps kd i
variable {kd av bv cv : Nat → Nat} {n : Nat}
theorem zc_ad_s (i : Nat) : zc_ad kd (i + 1) = zc_ad kd i + zc_sz kd i := rfl
theorem zc_po_s (i : Nat) : zc_po kd (i + 1) = zc_po kd i + zc_ps kd i := rfl
theorem zc_sz_le (i : Nat) : zc_sz kd i ≤ 6 := by
  unfold zc_sz
  repeat' split
  all_goals omega
theorem zc_ps_le (i : Nat) : zc_ps kd i ≤ 2 := by
  unfold zc_ps
  repeat' split
  all_goals omega
theorem zc_ad_le : ∀ i, zc_ad kd i ≤ 6 * i := by
  intro i
  induction i with
  | zero => exact Nat.le_refl _
  | succ i ih =>
    have := zc_sz_le (kd := kd) i
    rw [zc_ad_s]; omega
theorem zc_po_le : ∀ i, zc_po kd i ≤ 840 + 2 * i := by
  intro i
  induction i with
  | zero => exact Nat.le_refl _
  | succ i ih =>
    have := zc_ps_le (kd := kd) i
    rw [zc_po_s]; omega
theorem zc_ad_mono {i j : Nat} (h : i ≤ j) : zc_ad kd i ≤ zc_ad kd j := by
  induction j with
  | zero => rw [show i = 0 by omega]; exact Nat.le_refl _
  | succ j ih =>
    by_cases e : i = j + 1
    · rw [e]; exact Nat.le_refl _
    · have := ih (by omega)
      rw [zc_ad_s]; omega
theorem zc_po_mono {i j : Nat} (h : i ≤ j) : zc_po kd i ≤ zc_po kd j := by
  induction j with
  | zero => rw [show i = 0 by omega]; exact Nat.le_refl _
  | succ j ih =>
    by_cases e : i = j + 1
    · rw [e]; exact Nat.le_refl _
    · have := ih (by omega)
      rw [zc_po_s]; omega
theorem zc_po_ge (i : Nat) : 840 ≤ zc_po kd i := zc_po_mono (i := 0) (Nat.zero_le i)
theorem zc_ad_lt {i j : Nat} (h : i < j) : zc_ad kd i + zc_sz kd i ≤ zc_ad kd j := zc_ad_mono (i := i + 1) h
theorem zc_po_lt {i j : Nat} (h : i < j) : zc_po kd i + zc_ps kd i ≤ zc_po kd j := zc_po_mono (i := i + 1) h
theorem zc_inj {j j' w w' : Nat} (h : w < zc_sz kd j) (h' : w' < zc_sz kd j') (e : zc_ad kd j + w = zc_ad kd j' + w') : j = j' ∧ w = w' := by
  rcases Nat.lt_trichotomy j j' with g | g | g
  · have := zc_ad_lt (kd := kd) g; omega
  · subst g; exact ⟨rfl, by omega⟩
  · have := zc_ad_lt (kd := kd) g; omega
theorem zc_poinj {j j' w w' : Nat} (h : w < zc_ps kd j) (h' : w' < zc_ps kd j') (e : zc_po kd j + w = zc_po kd j' + w') : j = j' ∧ w = w' := by
  rcases Nat.lt_trichotomy j j' with g | g | g
  · have := zc_po_lt (kd := kd) g; omega
  · subst g; exact ⟨rfl, by omega⟩
  · have := zc_po_lt (kd := kd) g; omega
theorem zc_lim {j w : Nat} (hn : n ≤ 48) (hj : j < n) (h : w < zc_sz kd j) : zc_ad kd j + w < zc_ad kd n ∧ zc_ad kd j + w < 288 := by
  have h1 := zc_ad_lt (kd := kd) hj
  have h2 := zc_ad_le (kd := kd) n
  omega
theorem zc_polim {j w : Nat} (hn : n ≤ 48) (hj : j < n) (h : w < zc_ps kd j) : 840 ≤ zc_po kd j + w ∧ zc_po kd j + w < 936 := by
  have h1 := zc_po_lt (kd := kd) hj
  have h2 := zc_po_le (kd := kd) n
  have h3 := zc_po_ge (kd := kd) j
  omega
/-- the word of statement j that the machine plants itself -/
def zc_pln (kd : Nat → Nat) (j w : Nat) : Prop := (kd j = 4 ∧ w = 4) ∨ (kd j = 5 ∧ w = 5) ∨ (kd j = 11 ∧ w = 0)
/-- the words of the finished program -/
def zc_w (kd av bv cv : Nat → Nat) (n j w : Nat) : Nat :=
  if kd j = 0 then (if w = 0 then 1024 * 1 + zc_po kd j else 1024 * 2 + (800 + av j))
  else if kd j ≤ 3 then (if w = 0 then 1024 * 1 + (800 + bv j) else if w = 1 then 1024 * (kd j + 2) + (800 + cv j) else 1024 * 2 + (800 + av j))
  else if kd j = 4 then (if w = 0 then 1024 * 1 + (800 + cv j) else if w = 1 then 1024 * 6 + 832 else if w = 2 then 1024 * 3 + (834 + bv j) else if w = 3 then 1024 * 2 + (zc_ad kd j + 4) else 1024 * 2 + (800 + av j))
  else if kd j = 5 then (if w = 0 then 1024 * 1 + (800 + cv j) else if w = 1 then 1024 * 6 + 832 else if w = 2 then 1024 * 3 + (837 + bv j) else if w = 3 then 1024 * 2 + (zc_ad kd j + 5) else 1024 * 1 + (800 + av j))
  else if kd j = 6 then (if w = 0 then 1024 * 1 + (800 + av j) else 1024 * 8 + zc_ad kd (zs_en kd n j + 1))
  else if kd j = 7 then (if w = 0 then 1024 * 1 + zc_po kd j else 1024 * 2 + (zc_po kd j + 1))
  else if kd j = 8 then (if w = 0 then 1024 * 1 + (zc_po kd ((zs_t kd j).headD 0) + 1) else if w = 1 then 1024 * 4 + 833 else if w = 2 then 1024 * 2 + (zc_po kd ((zs_t kd j).headD 0) + 1) else if w = 3 then 1024 * 8 + (zc_ad kd j + 5) else 1024 * 7 + zc_ad kd ((zs_t kd j).headD 0 + 1))
  else if kd j = 9 then (if w = 0 then 1024 * 1 + zc_po kd j else 1024 * 7 + (zc_ad kd (zs_b kd av n (av j)) + 1))
  else if kd j = 10 then 1024 * 9 + (800 + av j)
  else 1024 * 2 + zc_ad kd (zs_e kd n (j + 1))
/-- the words while the statements below t are compiled -/
def zc_g (kd av bv cv : Nat → Nat) (n t j w : Nat) : Nat :=
  if kd j = 6 ∧ w = 1 then 1024 * 8 + (if j ∈ zs_t kd t then 0 else zc_ad kd (zs_en kd n j + 1))
  else if kd j = 9 ∧ w = 1 then 1024 * 7 + 0
  else if kd j = 11 ∧ w = 1 then 1024 * 2 + (if zs_e kd n (j + 1) < t then zc_ad kd (zs_e kd n (j + 1)) else 0)
  else zc_w kd av bv cv n j w
/-- the words while the calls below i have their entries -/
def zc_h (kd av bv cv : Nat → Nat) (n i j w : Nat) : Nat := if kd j = 9 ∧ w = 1 ∧ i ≤ j then 1024 * 7 + 0 else zc_w kd av bv cv n j w
def zc_pv (kd av : Nat → Nat) (b : Nat → Int32) (j : Nat) : Int32 := if kd j = 0 then b j else if kd j = 7 then nI (av j) else nI (1024 * 7 + (zc_ad kd j + 2))
def zc_STG (kd av bv cv : Nat → Nat) (n t : Nat) (mem : Nat → Int32) : Prop := ∀ j, j < t → ∀ w, w < zc_sz kd j → ¬ zc_pln kd j w → mem (zc_ad kd j + w) = nI (zc_g kd av bv cv n t j w)
def zc_POOL (kd av : Nat → Nat) (b : Nat → Int32) (t : Nat) (mem : Nat → Int32) : Prop := ∀ j, j < t → 0 < zc_ps kd j → mem (zc_po kd j) = zc_pv kd av b j
def zc_MZ (kd : Nat → Nat) (t : Nat) (mem : Nat → Int32) : Prop := ∀ j, j < t → kd j = 11 → mem (zc_ad kd j) = 0
def zc_B (kd : Nat → Nat) (bk bt bc : Nat → Int32) : List Nat → Prop
  | [] => True
  | o :: os => bk os.length = nI (kd o) ∧ bt os.length = nI (if kd o = 6 then zc_ad kd o + 1 else zc_ad kd (o + 1)) ∧ (kd o = 7 → bc os.length = nI (zc_po kd o + 1)) ∧ zc_B kd bk bt bc os
theorem zc_B_up {bk bt bc bk' bt' bc' : Nat → Int32} : ∀ l : List Nat, zc_B kd bk bt bc l → (∀ i, i < l.length → bk' i = bk i ∧ bt' i = bt i ∧ bc' i = bc i) → zc_B kd bk' bt' bc' l := by
  intro l
  induction l with
  | nil => intro _ _; trivial
  | cons o os ih =>
    intro h k
    obtain ⟨a, b, c, d⟩ := h
    obtain ⟨k1, k2, k3⟩ := k os.length (Nat.lt_succ_self _)
    exact ⟨by rw [k1, a], by rw [k2, b], fun h7 => by rw [k3, c h7], ih d (fun i hi => k i (Nat.lt_succ_of_lt hi))⟩
/-- the last BODY below t, and one; 0: none -/
def zc_lb (kd : Nat → Nat) : Nat → Nat
  | 0 => 0
  | t + 1 => if kd t = 11 then t + 1 else zc_lb kd t
def zc_pe (kd : Nat → Nat) (t : Nat) : Int32 := if zc_lb kd t = 0 then -1 else nI (zc_ad kd (zc_lb kd t - 1) + 1)
theorem zc_lb_0 : ∀ t, zc_lb kd t = 0 → ∀ k, k < t → kd k ≠ 11 := by
  intro t
  induction t with
  | zero => intro _ k hk; omega
  | succ t ih =>
    intro h k hk
    by_cases h11 : kd t = 11
    · have : zc_lb kd (t + 1) = t + 1 := if_pos h11
      omega
    · have e : zc_lb kd (t + 1) = zc_lb kd t := if_neg h11
      by_cases hkt : k = t
      · rw [hkt]; exact h11
      · exact ih (by omega) k (by omega)
theorem zc_lb_s : ∀ t j, zc_lb kd t = j + 1 → j < t ∧ kd j = 11 ∧ ∀ k, j < k → k < t → kd k ≠ 11 := by
  intro t
  induction t with
  | zero => intro j h; cases h
  | succ t ih =>
    intro j h
    by_cases h11 : kd t = 11
    · have e : zc_lb kd (t + 1) = t + 1 := if_pos h11
      have : j = t := by omega
      subst this
      exact ⟨by omega, h11, fun k k1 k2 => by omega⟩
    · have e : zc_lb kd (t + 1) = zc_lb kd t := if_neg h11
      obtain ⟨a, b, c⟩ := ih j (by omega)
      refine ⟨by omega, b, fun k k1 k2 => ?_⟩
      by_cases hkt : k = t
      · rw [hkt]; exact h11
      · exact c k k1 (by omega)
/-- a BODY below t ends at t, or ended before -/
theorem zc_e_last {t j : Nat} (ht : t ≤ n) (hl : zc_lb kd t = j + 1) (hk : t < n → kd t = 11) : zs_e kd n (j + 1) = t := by
  obtain ⟨a, b, c⟩ := zc_lb_s t j hl
  rw [zs_e_same (j := t) ht (by omega) (fun k k1 k2 => c k (by omega) k2)]
  exact zs_e_at ht hk
theorem zc_e_other {t j i : Nat} (ht : t ≤ n) (hl : zc_lb kd t = j + 1) (hi : i < t) (h11 : kd i = 11) (hne : i ≠ j) : zs_e kd n (i + 1) < t := by
  obtain ⟨a, b, c⟩ := zc_lb_s t j hl
  have hij : i < j := by
    rcases Nat.lt_trichotomy i j with h | h | h
    · exact h
    · exact absurd h hne
    · exact absurd h11 (c i h hi)
  obtain ⟨_, _, _, d⟩ := zs_e_spec kd n (i := i + 1) (by omega)
  by_cases g : zs_e kd n (i + 1) ≤ j
  · omega
  · exact absurd b (d j (by omega) (by omega))
/-- nothing changes below t, but for what the step itself patches -/
theorem zc_g_keep {t j w : Nat} (ht : t < n) (hj : j < t) (h8 : kd t = 8 → ∀ o os, zs_t kd t = o :: os → ¬ (kd o = 6 ∧ j = o ∧ w = 1)) (h11 : kd t = 11 → ¬ (w = 1 ∧ zc_lb kd t = j + 1)) : zc_g kd av bv cv n (t + 1) j w = zc_g kd av bv cv n t j w := by
  unfold zc_g
  by_cases c6 : kd j = 6 ∧ w = 1
  · rw [if_pos c6, if_pos c6]
    have : (j ∈ zs_t kd (t + 1)) ↔ (j ∈ zs_t kd t) := by
      by_cases a67 : kd t = 6 ∨ kd t = 7
      · rw [zs_t_op a67, List.mem_cons]
        constructor
        · intro h
          rcases h with h | h
          · omega
          · exact h
        · exact Or.inr
      · by_cases a8 : kd t = 8
        · rw [zs_t_end a8]
          cases e : zs_t kd t with
          | nil => exact Iff.rfl
          | cons o os =>
            have := h8 a8 o os e
            show j ∈ os ↔ j ∈ o :: os
            rw [List.mem_cons]
            constructor
            · exact Or.inr
            · intro h
              rcases h with h | h
              · subst h; exact absurd ⟨c6.1, rfl, c6.2⟩ this
              · exact h
        · rw [zs_t_oth (by omega) (by omega) a8]
    by_cases m : j ∈ zs_t kd t
    · rw [if_pos m, if_pos (this.mpr m)]
    · rw [if_neg m, if_neg (fun h => m (this.mp h))]
  · rw [if_neg c6, if_neg c6]
    by_cases c9 : kd j = 9 ∧ w = 1
    · rw [if_pos c9, if_pos c9]
    · rw [if_neg c9, if_neg c9]
      by_cases c11 : kd j = 11 ∧ w = 1
      · rw [if_pos c11, if_pos c11]
        have : zs_e kd n (j + 1) < t + 1 ↔ zs_e kd n (j + 1) < t := by
          constructor
          · intro h
            by_cases e : zs_e kd n (j + 1) = t
            · obtain ⟨s1, s2, s3, s4⟩ := zs_e_spec kd n (i := j + 1) (by omega)
              have k11 : kd t = 11 := by rw [← e]; exact s3 (by omega)
              exfalso
              refine h11 k11 ⟨c11.2, ?_⟩
              cases q : zc_lb kd t with
              | zero => exact absurd c11.1 (zc_lb_0 t q j hj)
              | succ i =>
                by_cases hij : j = i
                · rw [hij]
                · have := zc_e_other (n := n) (Nat.le_of_lt ht) q hj c11.1 hij
                  omega
            · omega
          · intro h; omega
        by_cases m : zs_e kd n (j + 1) < t
        · rw [if_pos m, if_pos (this.mpr m)]
        · rw [if_neg m, if_neg (fun h => m (this.mp h))]
      · rw [if_neg c11, if_neg c11]
end ZC
end
section
section ZN
/-! numbers; the source as both sides hold it -/
theorem zn_b {x : Nat} (h : x < 128) : vp_nar .byte (nI x).toInt8.toInt32 = nI x := by
  rw [pk_vb, lg_i2b_small (by rw [nI_toInt (by omega)]; omega) (by rw [nI_toInt (by omega)]; omega)]
theorem zn_s {x : Nat} (h : x < 32768) : vp_nar .short (nI x).toInt16.toInt32 = nI x := by
  rw [pk_vs, lg_i2s_small (by rw [nI_toInt (by omega)]; omega) (by rw [nI_toInt (by omega)]; omega)]
theorem zn_b6 : vp_nar .byte 6 = nI 6 := by rw [vp_nar_byte]; decide
theorem zn_b7 : vp_nar .byte 7 = nI 7 := by rw [vp_nar_byte]; decide
theorem zn_m1 : nI 0 + (-1) = -1 := by decide
theorem zn_neg : (-1 : Int32) < 0 := by decide
theorem zn_nneg : ¬ (0 : Int32) ≤ -1 := by decide
theorem zn_2 (a : Nat) : nI a + 2 = nI (a + 2) := nI_add a 2
theorem zn_m {k : Nat} (h : 0 < k) : nI k + (-1) = nI (k - 1) := by
  obtain ⟨m, rfl⟩ : ∃ m, k = m + 1 := ⟨k - 1, by omega⟩
  exact pk_m1 m
theorem zn_cl {i : Nat} (h : i ≤ 100000) : (nI i).toNatClampNeg = i := nI_clamp (by omega)
theorem zn_eq {a b : Nat} (ha : a ≤ 100000) (hb : b ≤ 100000) : nI a = nI b ↔ a = b := nI_eq (by omega) (by omega)
/-- the source: kinds, operands -/
def zn_S (kd av bv cv : Nat → Nat) (yk ya yb yc xf xs xt : Nat → Int32) (i : Nat) : Prop :=
  (kd i ≤ 11 ∧ yk i = nI (kd i)) ∧ (kd i ≠ 8 → ya i = nI (av i)) ∧ (kd i = 7 → 1 ≤ av i ∧ av i ≤ 5) ∧ (kd i = 9 ∨ kd i = 11 → av i ≤ 3) ∧ (kd i ≤ 6 ∨ kd i = 10 → av i ≤ 7) ∧
  (1 ≤ kd i ∧ kd i ≤ 5 → yb i = nI (bv i) ∧ yc i = nI (cv i) ∧ cv i ≤ 7 ∧ bv i ≤ 7) ∧ (kd i = 4 ∨ kd i = 5 → bv i ≤ 2) ∧
  (kd i = 0 → xf i = yb i ∧ xs i = nI (av i)) ∧ (kd i ≠ 0 → xf i = ya i) ∧ (1 ≤ kd i ∧ kd i ≤ 5 → xs i = nI (bv i) ∧ xt i = nI (cv i))
def zn_K (kd : Nat → Nat) (yk : Nat → Int32) : Prop := ∀ i, kd i ≤ 11 ∧ yk i = nI (kd i)
theorem zn_at {kd : Nat → Nat} {yk : Nat → Int32} (h : zn_K kd yk) {i : Nat} (hi : i ≤ 100000) : yk (nI i).toNatClampNeg = nI (kd i) := by
  rw [zn_cl hi]; exact (h i).2
theorem zn_SK {kd av bv cv : Nat → Nat} {yk ya yb yc xf xs xt : Nat → Int32} (h : ∀ i, zn_S kd av bv cv yk ya yb yc xf xs xt i) : zn_K kd yk := fun i => (h i).1
end ZN
end
section
section ZB
/-! the brackets -/
variable {xL xB xC xP xO xE xK xA xR xQ : Int32} {xk xf xs xt xv xb xc xm mem bk bT bc ent cs pv : Nat → Int32} {xw xi : Nat → Int64}
variable {yN yP : Int32} {yk ya yb yc yv yV yC yO yL yR yr : Nat → Int32} {yw ym : Nat → Int64}
variable {kd : Nat → Nat} {n : Nat}
def zb_W (kd : Nat → Nat) (j : Nat) : Prop := (kd j = 11 → zs_t kd j = []) ∧ (kd j = 8 → zs_t kd j ≠ []) ∧ (zs_t kd (j + 1)).length ≤ 3
theorem zb_of (h : ∀ j, j < n → zb_W kd j) (e : zs_t kd n = []) : zs_WF kd n := by
  refine ⟨fun i hi => (h i hi).1, fun i hi => (h i hi).2.1, fun i hi => ?_, e⟩
  cases i with
  | zero => exact Nat.zero_le _
  | succ i => exact (h i (by omega)).2.2
theorem zb_to (h : zs_WF kd n) {j : Nat} (hj : j < n) : zb_W kd j := ⟨h.1 j hj, h.2.1 j hj, h.2.2.1 (j + 1) hj⟩
theorem zb_x55 {post : Int32 → Prop} {J : Int32 → Int32 → Prop} {l i : Nat} (hl : l ≤ 4) (hJ : l ≤ 3 → J (nI l) (nI (i + 1))) (hp : 3 < l → post 0) : wX_bracketsFit_55 post J (nI l) (nI i) xL xB xC xP xO xE xK xA xR xQ xk xf xs xt xv xb xc xw xi xm mem bk bT bc ent cs pv :=
  br_f (nI_pos (by omega)) (pk_le l 3 (fun h => nm_r (nI_1 i) (hJ h)) hp)
theorem zb_x4 {post : Int32 → Prop} (hk : zn_K kd xk) (hn : n ≤ 48) (h1 : zs_WF kd n → post 1) (h0 : ¬ zs_WF kd n → post 0) : ∀ d i, i + d = n → (∀ j, j < i → zb_W kd j) → (zs_t kd i).length ≤ 3 → ∀ f, d < f → wX_bracketsFit_4 post (nI n) xB xC xP xO xE xK xA xR xQ xk xf xs xt xv xb xc xw xi xm mem bk bT bc ent cs pv f (nI (zs_t kd i).length) (nI i) := by
  intro d
  induction d with
  | zero =>
    intro i hi hW hl f hf
    obtain ⟨f, rfl⟩ : ∃ g, f = g + 1 := ⟨f - 1, by omega⟩
    have e : i = n := by omega
    subst e
    refine br_t (nI_le (Nat.le_refl _) (by omega)) (pk_eq (zs_t kd i).length 0 (fun h => h1 (zb_of hW (List.eq_nil_of_length_eq_zero h))) (fun h => h0 (fun w => h (by rw [w.2.2.2]; rfl))))
  | succ d ih =>
    intro i hi hW hl f hf
    obtain ⟨f, rfl⟩ : ∃ g, f = g + 1 := ⟨f - 1, by omega⟩
    obtain ⟨k11, _⟩ := hk i
    have nxt : zb_W kd i → wX_bracketsFit_4 post (nI n) xB xC xP xO xE xK xA xR xQ xk xf xs xt xv xb xc xw xi xm mem bk bT bc ent cs pv f (nI (zs_t kd (i + 1)).length) (nI (i + 1)) := fun hw =>
      ih (i + 1) (by omega) (lt_s hW hw) hw.2.2 f (by omega)
    have bad : ¬ zb_W kd i → post 0 := fun h => h0 (fun w => h (zb_to w (by omega)))
    refine br_f (nI_ge (by omega) (by omega)) ⟨vp_in_nI (by omega) (by omega), nm_r (zn_at hk (by omega)) ?_⟩
    have opn : kd i = 6 ∨ kd i = 7 → wX_bracketsFit_31 post (wX_bracketsFit_4 post (nI n) xB xC xP xO xE xK xA xR xQ xk xf xs xt xv xb xc xw xi xm mem bk bT bc ent cs pv f) (nI (zs_t kd i).length) (nI i) (nI (kd i)) (nI n) xB xC xP xO xE xK xA xR xQ xk xf xs xt xv xb xc xw xi xm mem bk bT bc ent cs pv := by
      intro h
      have e : zs_t kd (i + 1) = i :: zs_t kd i := zs_t_op h
      have el : (zs_t kd (i + 1)).length = (zs_t kd i).length + 1 := by rw [e]; rfl
      refine nm_r (nI_1 _) (pk_eq (kd i) 8 (fun h8 => absurd h8 (by omega)) (fun h8 => pk_eq (kd i) 11 (fun h11 => absurd h11 (by omega)) (fun h11 => ?_)))
      rw [el] at nxt
      exact zb_x55 (by omega) (fun h3 => nxt ⟨fun h => absurd h h11, fun h => absurd h h8, by omega⟩) (fun h3 => bad (fun w => by have := w.2.2; omega))
    refine pk_eq (kd i) 6 (fun e => opn (Or.inl e)) (fun e6 => pk_eq (kd i) 7 (fun e => opn (Or.inr e)) (fun e7 => pk_eq (kd i) 8 (fun h8 => ?_) (fun h8 => ?_)))
    · cases e : zs_t kd i with
      | nil =>
        exact nm_r zn_m1 (pk_eq (kd i) 11 (fun h11 => absurd h11 (by omega)) (fun _ => br_t zn_neg (bad (fun w => w.2.1 h8 e))))
      | cons o os =>
        have e2 : (zs_t kd (i + 1)) = os := by rw [zs_t_end h8, e]; rfl
        rw [e2] at nxt
        rw [e] at hl
        have hl2 : os.length + 1 ≤ 3 := hl
        refine nm_r (pk_m1 os.length) (pk_eq (kd i) 11 (fun h11 => absurd h11 (by omega)) (fun h11 => ?_))
        exact zb_x55 (by omega) (fun h3 => nxt ⟨fun h => absurd h h11, fun _ => by rw [e]; exact List.cons_ne_nil _ _, by rw [e2]; exact h3⟩) (fun h3 => by omega)
    · have e2 : zs_t kd (i + 1) = zs_t kd i := zs_t_oth e6 e7 h8
      rw [e2] at nxt
      refine pk_eq (kd i) 11 (fun h11 => pk_eq (zs_t kd i).length 0 (fun hz => ?_) (fun hz => ?_)) (fun h11 => ?_)
      · exact zb_x55 (by omega) (fun h3 => nxt ⟨fun _ => List.eq_nil_of_length_eq_zero hz, fun h => absurd h h8, by rw [e2]; exact h3⟩) (fun h3 => by omega)
      · exact bad (fun w => hz (by rw [w.1 h11]; rfl))
      · exact zb_x55 (by omega) (fun h3 => nxt ⟨fun h => absurd h h11, fun h => absurd h h8, by rw [e2]; exact h3⟩) (fun h3 => by omega)
theorem zb_x {post : Int32 → Prop} (hk : zn_K kd xk) (hn : n ≤ 48) (h1 : zs_WF kd n → post 1) (h0 : ¬ zs_WF kd n → post 0) : wpX_bracketsFit post (nI n, xB, xC, xP, xO, xE, xK, xA, xR, xQ, xk, xf, xs, xt, xv, xb, xc, xw, xi, xm, mem, bk, bT, bc, ent, cs, pv) :=
  ⟨n + 1, zb_x4 hk hn h1 h0 n 0 (by omega) (fun j hj => absurd hj (by omega)) (Nat.zero_le _) (n + 1) (by omega)⟩
/-! the reference's -/
theorem zy_opens {post : Int32 → Prop} {i : Nat} (hk : zn_K kd yk) (hi : i < 48) (h1 : kd i = 6 ∨ kd i = 7 → post 1) (h0 : ¬ (kd i = 6 ∨ kd i = 7) → post 0) : wpY_opens post (yN, yP, yk, ya, yb, yc, yv, yV, yC, yO, yL, yR, yr, yw, ym) (nI i) := by
  obtain ⟨k11, _⟩ := hk i
  have ek := zn_at hk (i := i) (by omega)
  have vi : vp_in (nI i) 48 := vp_in_nI hi (by omega)
  exact ⟨vi, pk_eq (kd i) 6 (fun e => h1 (Or.inl e)) (fun e6 => ⟨vi, pk_eq (kd i) 7 (fun e => h1 (Or.inr e)) (fun e7 => h0 (by omega)) ek⟩) ek⟩
theorem zb_y54 {post : Int32 → Prop} {J : Int32 → Int32 → Prop} {l i : Nat} (hl : l ≤ 4) (hJ : l ≤ 3 → J (nI l) (nI (i + 1))) (hp : 3 < l → post 1) : wY_malformed_54 post J (nI l) (nI i) yN yP yk ya yb yc yv yV yC yO yL yR yr yw ym :=
  br_f (nI_pos (by omega)) (pk_le l 3 (fun h => nm_r (nI_1 i) (hJ h)) hp)
theorem zb_y4 {post : Int32 → Prop} (hk : zn_K kd yk) (hn : n ≤ 48) (h1 : zs_WF kd n → post 0) (h0 : ¬ zs_WF kd n → post 1) : ∀ d i, i + d = n → (∀ j, j < i → zb_W kd j) → (zs_t kd i).length ≤ 3 → ∀ f, d < f → wY_malformed_4 post (nI n) yP yk ya yb yc yv yV yC yO yL yR yr yw ym f (nI (zs_t kd i).length) (nI i) := by
  intro d
  induction d with
  | zero =>
    intro i hi hW hl f hf
    obtain ⟨f, rfl⟩ : ∃ g, f = g + 1 := ⟨f - 1, by omega⟩
    have e : i = n := by omega
    subst e
    refine br_t (nI_le (Nat.le_refl _) (by omega)) (pk_eq (zs_t kd i).length 0 (fun h => h1 (zb_of hW (List.eq_nil_of_length_eq_zero h))) (fun h => h0 (fun w => h (by rw [w.2.2.2]; rfl))))
  | succ d ih =>
    intro i hi hW hl f hf
    obtain ⟨f, rfl⟩ : ∃ g, f = g + 1 := ⟨f - 1, by omega⟩
    obtain ⟨k11, _⟩ := hk i
    have ek := zn_at hk (i := i) (by omega)
    have vi : vp_in (nI i) 48 := vp_in_nI (by omega) (by omega)
    have nxt : zb_W kd i → wY_malformed_4 post (nI n) yP yk ya yb yc yv yV yC yO yL yR yr yw ym f (nI (zs_t kd (i + 1)).length) (nI (i + 1)) := fun hw =>
      ih (i + 1) (by omega) (lt_s hW hw) hw.2.2 f (by omega)
    have bad : ¬ zb_W kd i → post 1 := fun h => h0 (fun w => h (zb_to w (by omega)))
    have go : (kd i = 11 → zs_t kd i = []) → wY_malformed_29 post (wY_malformed_4 post (nI n) yP yk ya yb yc yv yV yC yO yL yR yr yw ym f) (nI (zs_t kd i).length) (nI i) (nI n) yP yk ya yb yc yv yV yC yO yL yR yr yw ym := by
      intro w1
      refine zy_opens hk (by omega) (fun h67 => ?_) (fun h67 => ?_)
      · have e : zs_t kd (i + 1) = i :: zs_t kd i := zs_t_op h67
        have el : (zs_t kd (i + 1)).length = (zs_t kd i).length + 1 := by rw [e]; rfl
        rw [el] at nxt
        refine br_f (by decide) (nm_r (nI_1 _) ⟨vi, pk_eq (kd i) 8 (fun h8 => absurd h8 (by omega)) (fun h8 => ?_) ek⟩)
        exact zb_y54 (by omega) (fun h3 => nxt ⟨w1, fun h => absurd h h8, by omega⟩) (fun h3 => bad (fun w => by have := w.2.2; omega))
      · refine br_t rfl ⟨vi, pk_eq (kd i) 8 (fun h8 => ?_) (fun h8 => ?_) ek⟩
        · cases e : zs_t kd i with
          | nil => exact nm_r zn_m1 (br_t zn_neg (bad (fun w => w.2.1 h8 e)))
          | cons o os =>
            have e2 : (zs_t kd (i + 1)) = os := by rw [zs_t_end h8, e]; rfl
            rw [e2] at nxt
            rw [e] at hl
            have hl2 : os.length + 1 ≤ 3 := hl
            refine nm_r (pk_m1 os.length) ?_
            exact zb_y54 (by omega) (fun h3 => nxt ⟨w1, fun _ => by rw [e]; exact List.cons_ne_nil _ _, by rw [e2]; exact h3⟩) (fun h3 => by omega)
        · have e2 : zs_t kd (i + 1) = zs_t kd i := zs_t_oth (by omega) (by omega) h8
          rw [e2] at nxt
          exact zb_y54 (by omega) (fun h3 => nxt ⟨w1, fun h => absurd h h8, by rw [e2]; exact h3⟩) (fun h3 => by omega)
    refine br_f (nI_ge (by omega) (by omega)) ⟨vi, pk_eq (kd i) 11 (fun h11 => pk_eq (zs_t kd i).length 0 (fun hz => go (fun _ => List.eq_nil_of_length_eq_zero hz)) (fun hz => bad (fun w => hz (by rw [w.1 h11]; rfl)))) (fun h11 => go (fun h => absurd h h11)) ek⟩
theorem zb_y {post : Int32 → Prop} (hk : zn_K kd yk) (hn : n ≤ 48) (h1 : zs_WF kd n → post 0) (h0 : ¬ zs_WF kd n → post 1) : wpY_malformed post (nI n, yP, yk, ya, yb, yc, yv, yV, yC, yO, yL, yR, yr, yw, ym) :=
  ⟨n + 1, zb_y4 hk hn h1 h0 n 0 (by omega) (fun j hj => absurd hj (by omega)) (Nat.zero_le _) (n + 1) (by omega)⟩
end ZB
end
section
section ZL
/-! bits -/
theorem zr_1 : ∀ i, i < 32 → bt 1 i = decide (i = 0) := by decide +kernel
theorem zr_sh0 (x : Int32) {u : Nat} (hu : u < 32) : bt (x >>> (nI u &&& 31)) 0 = bt x u := by
  rw [b_sshr u hu x (by omega), Nat.add_zero, if_pos hu]
theorem zr_and1 (y : Int32) : y &&& 1 = if bt y 0 = true then 1 else 0 := by
  refine b_ext (fun i hi => ?_)
  rw [b_and, zr_1 i hi]
  by_cases e : i = 0
  · subst e
    cases h : bt y 0 <;> rfl
  · rw [decide_eq_false e, Bool.and_false]
    split
    · rw [zr_1 i hi, decide_eq_false e]
    · rw [b_0]
theorem zr_bit0 (x : Int32) {u : Nat} (hu : u < 32) : ((x >>> (nI u &&& 31)) &&& 1) = 0 ↔ bt x u = false := by
  rw [zr_and1, zr_sh0 x hu]
  cases bt x u <;> simp
theorem zr_bit1 (x : Int32) {u : Nat} (hu : u < 32) : ((x >>> (nI u &&& 31)) &&& 1) = 1 ↔ bt x u = true := by
  rw [zr_and1, zr_sh0 x hu]
  cases bt x u <;> simp
theorem zr_shl {u i : Nat} (hu : u < 32) (hi : i < 32) : bt ((1 : Int32) <<< (nI u &&& 31)) i = decide (i = u) := by
  rw [b_shl u hu 1 hi]
  by_cases h : u ≤ i
  · rw [decide_eq_true h, Bool.true_and, zr_1 _ (by omega)]
    by_cases e : i = u
    · rw [decide_eq_true (by omega), decide_eq_true e]
    · rw [decide_eq_false (by omega), decide_eq_false e]
  · rw [decide_eq_false h, Bool.false_and, decide_eq_false (by omega)]
/-! the bodies -/
variable {xL xB xC xP xO xE xK xA xR xQ : Int32} {xk xf xs xt xv xb xc xm mem bk bT bc ent cs pv : Nat → Int32} {xw xi : Nat → Int64}
variable {yN yP : Int32} {yk ya yb yc yv yV yC yO yL yR yr : Nat → Int32} {yw ym : Nat → Int64}
variable {kd av : Nat → Nat} {n : Nat}
def zl_h (kd av : Nat → Nat) (s : Nat) : Nat → Bool
  | 0 => false
  | i + 1 => zl_h kd av s i || (kd i == 11 && av i == s)
def zl_nd (kd av : Nat → Nat) : Nat → Bool
  | 0 => true
  | i + 1 => zl_nd kd av i && !(kd i == 11 && zl_h kd av (av i) i)
def zl_c (kd av : Nat → Nat) (s : Nat) : Nat → Nat
  | 0 => 0
  | i + 1 => if kd i = 11 ∧ av i = s then zl_c kd av s i + 1 else zl_c kd av s i
def zl_i (b : Bool) : Int32 := if b = true then 1 else 0
theorem zl_h_iff {s : Nat} : ∀ i, zl_h kd av s i = true ↔ ∃ j, j < i ∧ kd j = 11 ∧ av j = s := by
  intro i
  induction i with
  | zero => exact ⟨fun h => (by cases h), fun ⟨j, hj, _⟩ => absurd hj (by omega)⟩
  | succ i ih =>
    show (zl_h kd av s i || (kd i == 11 && av i == s)) = true ↔ _
    rw [Bool.or_eq_true, Bool.and_eq_true, beq_iff_eq, beq_iff_eq, ih]
    constructor
    · intro h
      rcases h with ⟨j, a, b⟩ | h
      · exact ⟨j, by omega, b⟩
      · exact ⟨i, by omega, h⟩
    · intro ⟨j, a, b⟩
      by_cases e : j = i
      · subst e; exact Or.inr b
      · exact Or.inl ⟨j, by omega, b⟩
theorem zl_h_b {s : Nat} : zl_h kd av s n = true ↔ zs_b kd av n s < n := by
  rw [zl_h_iff]
  constructor
  · intro ⟨j, a, b⟩
    obtain ⟨_, _, c⟩ := zs_b_spec kd av n s
    by_cases h : zs_b kd av n s ≤ j
    · omega
    · exact absurd b (c j (by omega))
  · intro h
    obtain ⟨_, b, _⟩ := zs_b_spec kd av n s
    exact ⟨_, h, b h⟩
theorem zl_nd_iff : ∀ i, zl_nd kd av i = true ↔ ∀ j k, j < k → k < i → kd j = 11 → kd k = 11 → av j ≠ av k := by
  intro i
  induction i with
  | zero => exact ⟨fun _ j k _ h => by omega, fun _ => rfl⟩
  | succ i ih =>
    show (zl_nd kd av i && !(kd i == 11 && zl_h kd av (av i) i)) = true ↔ _
    rw [Bool.and_eq_true, ih, Bool.not_eq_true']
    constructor
    · intro ⟨a, b⟩ j k h1 h2 h3 h4 e
      by_cases hk : k = i
      · subst hk
        have : (kd k == 11 && zl_h kd av (av k) k) = true := by
          rw [Bool.and_eq_true, beq_iff_eq]
          exact ⟨h4, (zl_h_iff k).mpr ⟨j, h1, h3, e⟩⟩
        rw [this] at b; cases b
      · exact a j k h1 (by omega) h3 h4 e
    · intro h
      refine ⟨fun j k h1 h2 => h j k h1 (by omega), ?_⟩
      rw [Bool.and_eq_false_iff]
      by_cases h11 : kd i = 11
      · refine Or.inr ?_
        rw [Bool.eq_false_iff]
        intro hh
        obtain ⟨j, a, b, c⟩ := (zl_h_iff i).mp hh
        exact h j i a (by omega) b h11 c
      · exact Or.inl (by rw [beq_eq_false_iff_ne]; exact h11)
theorem zl_nd_b (h : zl_nd kd av n = true) {j : Nat} (hj : j < n) (h11 : kd j = 11) : zs_b kd av n (av j) = j := by
  rw [zl_nd_iff] at h
  exact zs_b_eq hj ⟨h11, rfl⟩ (fun k hk c => h k j hk hj c.1 h11 c.2)
theorem zl_c_h {s : Nat} : ∀ i, 0 < zl_c kd av s i ↔ zl_h kd av s i = true := by
  intro i
  induction i with
  | zero => exact ⟨fun h => absurd h (by show ¬ 0 < 0; omega), fun h => by cases h⟩
  | succ i ih =>
    show 0 < (if kd i = 11 ∧ av i = s then zl_c kd av s i + 1 else zl_c kd av s i) ↔ (zl_h kd av s i || (kd i == 11 && av i == s)) = true
    rw [Bool.or_eq_true, Bool.and_eq_true, beq_iff_eq, beq_iff_eq, ← ih]
    split
    · rename_i h
      exact ⟨fun _ => Or.inr h, fun _ => by omega⟩
    · rename_i h
      exact ⟨Or.inl, fun g => g.elim id (fun g => absurd g h)⟩
theorem zl_c_le {s : Nat} : ∀ i, zl_c kd av s i ≤ i := by
  intro i
  induction i with
  | zero => exact Nat.le_refl _
  | succ i ih =>
    show (if kd i = 11 ∧ av i = s then zl_c kd av s i + 1 else zl_c kd av s i) ≤ i + 1
    split <;> omega
theorem zl_c_nd (ha : ∀ i, kd i = 11 → av i ≤ 3) : ∀ i, zl_nd kd av i = true ↔ ∀ s, s < 4 → zl_c kd av s i ≤ 1 := by
  intro i
  induction i with
  | zero => exact ⟨fun _ s _ => by show 0 ≤ 1; omega, fun _ => rfl⟩
  | succ i ih =>
    show (zl_nd kd av i && !(kd i == 11 && zl_h kd av (av i) i)) = true ↔ ∀ s, s < 4 → (if kd i = 11 ∧ av i = s then zl_c kd av s i + 1 else zl_c kd av s i) ≤ 1
    rw [Bool.and_eq_true, ih, Bool.not_eq_true']
    constructor
    · intro ⟨a, b⟩ s hs
      split
      · rename_i h
        by_cases z : 0 < zl_c kd av s i
        · have : (kd i == 11 && zl_h kd av (av i) i) = true := by
            rw [Bool.and_eq_true, beq_iff_eq, h.2]
            exact ⟨h.1, (zl_c_h i).mp z⟩
          rw [this] at b; cases b
        · omega
      · exact a s hs
    · intro h
      refine ⟨fun s hs => ?_, ?_⟩
      · have := h s hs
        split at this <;> omega
      · rw [Bool.and_eq_false_iff]
        by_cases h11 : kd i = 11
        · refine Or.inr ?_
          rw [Bool.eq_false_iff]
          intro hh
          have z := (zl_c_h (kd := kd) (av := av) (s := av i) i).mpr hh
          have := h (av i) (by have := ha i h11; omega)
          rw [if_pos ⟨h11, rfl⟩] at this
          omega
        · exact Or.inl (by rw [beq_eq_false_iff_ne]; exact h11)
def zl_BA (kd av : Nat → Nat) (i : Nat) (xb : Nat → Int32) : Prop := zl_nd kd av i = true → ∀ j, j < i → kd j = 11 → xb (av j) = nI j
theorem zl_x9 {post : Int32 → SX → Prop} (hk : zn_K kd xk) (hf : ∀ i, kd i = 11 → xf i = nI (av i) ∧ av i ≤ 3) (hn : n ≤ 48) (H : ∀ B b, (∀ s, s < 4 → bt B s = zl_h kd av s n) → zl_BA kd av n b → post (zl_i (zl_nd kd av n)) (nI n, B, xC, xP, xO, xE, xK, xA, xR, xQ, xk, xf, xs, xt, xv, b, xc, xw, xi, xm, mem, bk, bT, bc, ent, cs, pv)) : ∀ d i, i + d = n → ∀ B b, (∀ s, s < 4 → bt B s = zl_h kd av s i) → zl_BA kd av i b → ∀ f, d < f → wX_listBodies_9 post (nI n) xC xP xO xE xK xA xR xQ f (zl_i (zl_nd kd av i)) (nI i) B xk xf xs xt xv b xc xw xi xm mem bk bT bc ent cs pv := by
  intro d
  induction d with
  | zero =>
    intro i hi B b hB hb f hff
    obtain ⟨f, rfl⟩ : ∃ g, f = g + 1 := ⟨f - 1, by omega⟩
    have e : i = n := by omega
    subst e
    refine br_t (nI_le (Nat.le_refl _) (by omega)) ⟨?_, H B b hB hb⟩
    unfold zl_i
    split
    · exact narrow_b1
    · exact narrow_b0
  | succ d ih =>
    intro i hi B b hB hb f hff
    obtain ⟨f, rfl⟩ : ∃ g, f = g + 1 := ⟨f - 1, by omega⟩
    obtain ⟨k11, _⟩ := hk i
    have ek := zn_at hk (i := i) (by omega)
    have vi : vp_in (nI i) 48 := vp_in_nI (by omega) (by omega)
    refine br_f (nI_ge (by omega) (by omega)) ⟨vi, pk_eq (kd i) 11 (fun h11 => ⟨vi, ?_⟩) (fun h11 => nm_r (nI_1 i) ?_) ek⟩
    · obtain ⟨ef, ha⟩ := hf i h11
      refine nm_r (e' := nI (av i)) (by rw [zn_cl (by omega)]; exact ef) ?_
      have va4 : vp_in (nI (av i)) 4 := vp_in_nI (by omega) (by omega)
      have HB : ∀ s, s < 4 → bt (B ||| ((1 : Int32) <<< (nI (av i) &&& 31))) s = zl_h kd av s (i + 1) := by
        intro s hs
        rw [b_or, zr_shl (by omega) (by omega), hB s hs]
        show _ = (zl_h kd av s i || (kd i == 11 && av i == s))
        rw [h11]
        by_cases e : s = av i
        · subst e; simp
        · rw [decide_eq_false e]
          have : (av i == s) = false := by rw [beq_eq_false_iff_ne]; exact fun h => e h.symm
          rw [this]; simp
      have HA : zl_BA kd av (i + 1) (upd b (av i) (nI i)) := by
        intro h j hj hj11
        by_cases e : j = i
        · subst e; exact pk_us
        · have hd := (zl_nd_iff (i + 1)).mp h j i (by omega) (by omega) hj11 h11
          rw [pk_un hd]
          refine hb ?_ j (by omega) hj11
          have h' : (zl_nd kd av i && !(kd i == 11 && zl_h kd av (av i) i)) = true := h
          rw [Bool.and_eq_true] at h'
          exact h'.1
      have e51 : ∀ z : Int32, z = zl_i (zl_nd kd av (i + 1)) → wX_listBodies_51 post (wX_listBodies_9 post (nI n) xC xP xO xE xK xA xR xQ f) z (nI i) (nI (av i)) (nI n) B xC xP xO xE xK xA xR xQ xk xf xs xt xv b xc xw xi xm mem bk bT bc ent cs pv := by
        intro z hz
        subst hz
        refine nm_e ⟨va4, nm_r (e' := upd b (av i) (nI i)) (by rw [zn_cl (by omega), zn_b (by omega)]) (nm_r (nI_1 i) ?_)⟩
        exact ih (i + 1) (by omega) _ _ HB HA f (by omega)
      have nd1 : zl_nd kd av (i + 1) = (zl_nd kd av i && !(zl_h kd av (av i) i)) := by
        show (zl_nd kd av i && !(kd i == 11 && zl_h kd av (av i) i)) = _
        rw [h11]; simp
      refine br_c (fun c => e51 _ ?_) (fun c => e51 _ ?_)
      · rw [zr_bit0 B (by omega), hB _ (by omega)] at c
        rw [nd1, c]; simp
      · rw [zr_bit0 B (by omega), hB _ (by omega)] at c
        rw [nd1, ts_nf c]; simp [zl_i]
    · have nd1 : zl_nd kd av (i + 1) = zl_nd kd av i := by
        show (zl_nd kd av i && !(kd i == 11 && zl_h kd av (av i) i)) = _
        have : (kd i == 11) = false := by rw [beq_eq_false_iff_ne]; exact h11
        rw [this]; simp
      have h1 : ∀ s, zl_h kd av s (i + 1) = zl_h kd av s i := by
        intro s
        show (zl_h kd av s i || (kd i == 11 && av i == s)) = _
        have : (kd i == 11) = false := by rw [beq_eq_false_iff_ne]; exact h11
        rw [this]; simp
      have := ih (i + 1) (by omega) B b (fun s hs => by rw [h1]; exact hB s hs) (fun h j hj hj11 => hb (by rw [← nd1]; exact h) j (by
        by_cases e : j = i
        · subst e; exact absurd hj11 h11
        · omega) hj11) f (by omega)
      rw [nd1] at this
      exact this
theorem zl_x {post : Int32 → SX → Prop} (hk : zn_K kd xk) (hf : ∀ i, kd i = 11 → xf i = nI (av i) ∧ av i ≤ 3) (hn : n ≤ 48) (H : ∀ B b, (∀ s, s < 4 → bt B s = zl_h kd av s n) → zl_BA kd av n b → post (zl_i (zl_nd kd av n)) (nI n, B, xC, xP, xO, xE, xK, xA, xR, xQ, xk, xf, xs, xt, xv, b, xc, xw, xi, xm, mem, bk, bT, bc, ent, cs, pv)) : wpX_listBodies post (nI n, xB, xC, xP, xO, xE, xK, xA, xR, xQ, xk, xf, xs, xt, xv, xb, xc, xw, xi, xm, mem, bk, bT, bc, ent, cs, pv) :=
  ⟨n + 1, zl_x9 hk hf hn H n 0 (by omega) 0 xb (fun s _ => b_0 s) (fun _ j hj => absurd hj (by omega)) (n + 1) (by omega)⟩
/-! the reference's -/
theorem zl_y4 {post : Int32 → Prop} {s : Nat} (hk : zn_K kd yk) (hf : ∀ i, kd i = 11 → ya i = nI (av i) ∧ av i ≤ 3) (hn : n ≤ 48) (hs : s ≤ 3) (H : post (nI (zl_c kd av s n))) : ∀ d i, i + d = n → ∀ f, d < f → wY_bodies_4 post (nI s) (nI n) yP yk ya yb yc yv yV yC yO yL yR yr yw ym f (nI (zl_c kd av s i)) (nI i) := by
  intro d
  induction d with
  | zero =>
    intro i hi f hff
    obtain ⟨f, rfl⟩ : ∃ g, f = g + 1 := ⟨f - 1, by omega⟩
    have e : i = n := by omega
    subst e
    exact br_t (nI_le (Nat.le_refl _) (by omega)) H
  | succ d ih =>
    intro i hi f hff
    obtain ⟨f, rfl⟩ : ∃ g, f = g + 1 := ⟨f - 1, by omega⟩
    obtain ⟨k11, _⟩ := hk i
    have ek := zn_at hk (i := i) (by omega)
    have vi : vp_in (nI i) 48 := vp_in_nI (by omega) (by omega)
    have nx := ih (i + 1) (by omega) f (by omega)
    refine br_f (nI_ge (by omega) (by omega)) ⟨vi, pk_eq (kd i) 11 (fun h11 => ⟨vi, ?_⟩) (fun h11 => nm_r (nI_1 i) ?_) ek⟩
    · obtain ⟨ef, ha⟩ := hf i h11
      have ea : ya (nI i).toNatClampNeg = nI (av i) := by rw [zn_cl (by omega)]; exact ef
      refine pk_eq (av i) s (fun e => nm_r (nI_1 _) (nm_r (nI_1 i) ?_)) (fun e => nm_r (nI_1 i) ?_) ea
      · have c : zl_c kd av s (i + 1) = zl_c kd av s i + 1 := if_pos ⟨h11, e⟩
        rw [c] at nx; exact nx
      · have c : zl_c kd av s (i + 1) = zl_c kd av s i := if_neg (fun h => e h.2)
        rw [c] at nx; exact nx
    · have c : zl_c kd av s (i + 1) = zl_c kd av s i := if_neg (fun h => h11 h.1)
      rw [c] at nx; exact nx
theorem zl_y {post : Int32 → Prop} {s : Nat} (hk : zn_K kd yk) (hf : ∀ i, kd i = 11 → ya i = nI (av i) ∧ av i ≤ 3) (hn : n ≤ 48) (hs : s ≤ 3) (H : post (nI (zl_c kd av s n))) : wpY_bodies post (nI n, yP, yk, ya, yb, yc, yv, yV, yC, yO, yL, yR, yr, yw, ym) (nI s) :=
  ⟨n + 1, zl_y4 hk hf hn hs H n 0 (by omega) (n + 1) (by omega)⟩
end ZL
end
section
section ZK
/-! who calls whom -/
variable {xL xB xC xP xO xE xK xA xR xQ : Int32} {xk xf xs xt xv xb xc xm mem bk bT bc ent cs pv : Nat → Int32} {xw xi : Nat → Int64}
variable {yN yP : Int32} {yk ya yb yc yv yV yC yO yL yR yr : Nat → Int32} {yw ym : Nat → Int64}
variable {kd av : Nat → Nat} {n : Nat}
def zr_D (kd av : Nat → Nat) : Nat → Nat → Nat → Bool
  | 0 => fun _ _ => false
  | i + 1 => fun s u => zr_D kd av i s u || (kd i == 9 && zs_p kd av i == s + 1 && av i == u)
def zl_ab (kd av : Nat → Nat) (n : Nat) : Nat → Bool
  | 0 => true
  | i + 1 => zl_ab kd av n i && !(kd i == 9 && !(zl_h kd av (av i) n))
def zl_pi (p : Nat) : Int32 := if p = 0 then -1 else nI (p - 1)
theorem zl_pi_s (s : Nat) : zl_pi (s + 1) = nI s := if_neg (by omega)
theorem zl_pi_0 : zl_pi 0 = -1 := rfl
theorem zs_p_le (ha : ∀ i, kd i = 11 → av i ≤ 3) : ∀ i, zs_p kd av i ≤ 4 := by
  intro i
  induction i with
  | zero => exact Nat.zero_le _
  | succ i ih =>
    by_cases h : kd i = 11
    · rw [zs_p_body h]; have := ha i h; omega
    · rw [zs_p_oth h]; exact ih
theorem zr_D_oth {i : Nat} (h : kd i ≠ 9) (s u : Nat) : zr_D kd av (i + 1) s u = zr_D kd av i s u := by
  show (zr_D kd av i s u || (kd i == 9 && zs_p kd av i == s + 1 && av i == u)) = _
  have : (kd i == 9) = false := by rw [beq_eq_false_iff_ne]; exact h
  rw [this]; simp
theorem zr_D_main {i : Nat} (h : zs_p kd av i = 0) (s u : Nat) : zr_D kd av (i + 1) s u = zr_D kd av i s u := by
  show (zr_D kd av i s u || (kd i == 9 && zs_p kd av i == s + 1 && av i == u)) = _
  have : (zs_p kd av i == s + 1) = false := by rw [beq_eq_false_iff_ne, h]; omega
  rw [this]; simp
theorem zr_D_call {i p : Nat} (h : kd i = 9) (hp : zs_p kd av i = p + 1) (s u : Nat) : zr_D kd av (i + 1) s u = (zr_D kd av i s u || (decide (s = p) && decide (u = av i))) := by
  show (zr_D kd av i s u || (kd i == 9 && zs_p kd av i == s + 1 && av i == u)) = _
  rw [h, hp]
  by_cases e : s = p
  · subst e
    by_cases e2 : u = av i
    · subst e2; simp
    · have : (av i == u) = false := by rw [beq_eq_false_iff_ne]; exact fun h => e2 h.symm
      rw [this, decide_eq_false e2]; simp
  · have : (p + 1 == s + 1) = false := by rw [beq_eq_false_iff_ne]; omega
    rw [this, decide_eq_false e]; simp
theorem zr_D_iff {s u : Nat} : ∀ i, (∃ j, j < i ∧ kd j = 9 ∧ zs_p kd av j = s + 1 ∧ av j = u) → zr_D kd av i s u = true := by
  intro i
  induction i with
  | zero => intro ⟨j, hj, _⟩; omega
  | succ i ih =>
    intro ⟨j, hj, h1, h2, h3⟩
    show (zr_D kd av i s u || (kd i == 9 && zs_p kd av i == s + 1 && av i == u)) = true
    by_cases e : j = i
    · subst e
      rw [h1, h2, h3]; simp
    · rw [ih ⟨j, by omega, h1, h2, h3⟩]; rfl
theorem zl_ab_iff : ∀ i, zl_ab kd av n i = true ↔ ∀ j, j < i → kd j = 9 → zl_h kd av (av j) n = true := by
  intro i
  induction i with
  | zero => exact ⟨fun _ j hj => by omega, fun _ => rfl⟩
  | succ i ih =>
    show (zl_ab kd av n i && !(kd i == 9 && !(zl_h kd av (av i) n))) = true ↔ _
    rw [Bool.and_eq_true, ih, Bool.not_eq_true', Bool.and_eq_false_iff, Bool.not_eq_false', beq_eq_false_iff_ne]
    constructor
    · intro ⟨a, b⟩ j hj h9
      by_cases e : j = i
      · subst e; exact b.elim (fun h => absurd h9 h) id
      · exact a j (by omega) h9
    · intro h
      refine ⟨fun j hj => h j (by omega), ?_⟩
      by_cases h9 : kd i = 9
      · exact Or.inr (h i (by omega) h9)
      · exact Or.inl h9
def zr_M (c : Nat → Int32) (M : Nat → Nat → Bool) : Prop := ∀ s u, s < 4 → u < 4 → bt (c s) u = M s u
/-! listCalls -/
theorem zk_x84 {post : Int32 → SX → Prop} {J : Int32 → Int32 → Int32 → (Nat → Int32) → (Nat → Int32) → (Nat → Int32) → (Nat → Int32) → (Nat → Int32) → (Nat → Int32) → (Nat → Int32) → (Nat → Int64) → (Nat → Int64) → (Nat → Int32) → (Nat → Int32) → (Nat → Int32) → (Nat → Int32) → (Nat → Int32) → (Nat → Int32) → (Nat → Int32) → (Nat → Int32) → Prop} {i : Nat} {z : Int32}
    (hi : i < 48) (h9 : kd i = 9) (hf : xf i = nI (av i)) (ha : av i ≤ 3) (hp : zs_p kd av i ≤ 4) (hM : zr_M xc (zr_D kd av i)) (H : ∀ c, zr_M c (zr_D kd av (i + 1)) → J (zl_pi (zs_p kd av i)) z (nI (i + 1)) xk xf xs xt xv xb c xw xi xm mem bk bT bc ent cs pv) : wX_listCalls_84 post J (zl_pi (zs_p kd av i)) z (nI i) xL xB xC xP xO xE xK xA xR xQ xk xf xs xt xv xb xc xw xi xm mem bk bT bc ent cs pv := by
  cases e : zs_p kd av i with
  | zero =>
    rw [e] at H
    exact br_t zn_neg (nm_r (nI_1 i) (H xc (fun s u hs hu => by rw [zr_D_main e]; exact hM s u hs hu)))
  | succ p =>
    rw [e] at H
    rw [zl_pi_s] at H ⊢
    have vp : vp_in (nI p) 4 := vp_in_nI (by omega) (by omega)
    have cp : (nI p).toNatClampNeg = p := zn_cl (by omega)
    have ci : (nI i).toNatClampNeg = i := zn_cl (by omega)
    refine br_f (nI_pos (by omega)) ⟨vp, vp_in_nI hi (by omega), vp, nm_r (e' := upd xc p (xc p ||| ((1 : Int32) <<< (nI (av i) &&& 31)))) (by rw [cp, ci, hf]) (nm_r (nI_1 i) (H _ (fun s u hs hu => ?_)))⟩
    rw [zr_D_call h9 e]
    by_cases es : s = p
    · subst es
      rw [pk_us, b_or, hM s u hs hu, zr_shl (by omega) (by omega)]; simp
    · rw [pk_un es, hM s u hs hu, decide_eq_false es]; simp
theorem zk_x26 {post : Int32 → SX → Prop} (hk : zn_K kd xk) (hf : ∀ i, kd i = 9 ∨ kd i = 11 → xf i = nI (av i) ∧ av i ≤ 3) (hn : n ≤ 48) (hB : ∀ s, s < 4 → bt xB s = zl_h kd av s n) (H : ∀ c, zr_M c (zr_D kd av n) → post (zl_i (zl_ab kd av n n)) (nI n, xB, xC, xP, xO, xE, xK, xA, xR, xQ, xk, xf, xs, xt, xv, xb, c, xw, xi, xm, mem, bk, bT, bc, ent, cs, pv)) : ∀ d i, i + d = n → ∀ c, zr_M c (zr_D kd av i) → ∀ f, d < f → wX_listCalls_26 post (nI n) xB xC xP xO xE xK xA xR xQ f (zl_pi (zs_p kd av i)) (zl_i (zl_ab kd av n i)) (nI i) xk xf xs xt xv xb c xw xi xm mem bk bT bc ent cs pv := by
  intro d
  induction d with
  | zero =>
    intro i hi c hc f hff
    obtain ⟨f, rfl⟩ : ∃ g, f = g + 1 := ⟨f - 1, by omega⟩
    have e : i = n := by omega
    subst e
    refine br_t (nI_le (Nat.le_refl _) (by omega)) ⟨?_, H c hc⟩
    unfold zl_i
    split
    · exact narrow_b1
    · exact narrow_b0
  | succ d ih =>
    intro i hi c hc f hff
    obtain ⟨f, rfl⟩ : ∃ g, f = g + 1 := ⟨f - 1, by omega⟩
    obtain ⟨k11, _⟩ := hk i
    have ek := zn_at hk (i := i) (by omega)
    have vi : vp_in (nI i) 48 := vp_in_nI (by omega) (by omega)
    have ci : (nI i).toNatClampNeg = i := zn_cl (by omega)
    have pl4 := zs_p_le (kd := kd) (av := av) (fun i h => (hf i (Or.inr h)).2)
    refine br_f (nI_ge (by omega) (by omega)) ⟨vi, pk_eq (kd i) 11 (fun h11 => ⟨vi, nm_r (e' := zl_pi (zs_p kd av (i + 1))) (by rw [ci, (hf i (Or.inr h11)).1, zs_p_body h11, zl_pi_s]) ⟨vi, pk_eq (kd i) 9 (fun h9 => absurd h9 (by omega)) (fun h9 => nm_r (nI_1 i) ?_) ek⟩⟩) (fun h11 => ⟨vi, pk_eq (kd i) 9 (fun h9 => ⟨vi, ?_⟩) (fun h9 => nm_r (nI_1 i) ?_) ek⟩) ek⟩
    · have ab1 : zl_ab kd av n (i + 1) = zl_ab kd av n i := by
        show (zl_ab kd av n i && !(kd i == 9 && !(zl_h kd av (av i) n))) = _
        have : (kd i == 9) = false := by rw [beq_eq_false_iff_ne]; exact h9
        rw [this]; simp
      have := ih (i + 1) (by omega) c (fun s u hs hu => by rw [zr_D_oth h9]; exact hc s u hs hu) f (by omega)
      rw [ab1] at this
      exact this
    · obtain ⟨ef, ha⟩ := hf i (Or.inl h9)
      have ab1 : zl_ab kd av n (i + 1) = (zl_ab kd av n i && zl_h kd av (av i) n) := by
        show (zl_ab kd av n i && !(kd i == 9 && !(zl_h kd av (av i) n))) = _
        rw [h9]; simp
      have go : ∀ z : Int32, z = zl_i (zl_ab kd av n (i + 1)) → wX_listCalls_84 post (wX_listCalls_26 post (nI n) xB xC xP xO xE xK xA xR xQ f) (zl_pi (zs_p kd av i)) z (nI i) (nI n) xB xC xP xO xE xK xA xR xQ xk xf xs xt xv xb c xw xi xm mem bk bT bc ent cs pv := by
        intro z hz
        subst hz
        refine zk_x84 (by omega) h9 ef ha (pl4 i) hc (fun c' hc' => ?_)
        have := ih (i + 1) (by omega) c' hc' f (by omega)
        rw [zs_p_oth h11] at this
        exact this
      refine br_c (fun q => go _ ?_) (fun q => go _ ?_)
      · rw [ci, ef, zr_bit0 xB (by omega), hB _ (by omega)] at q
        rw [ab1, q]; simp [zl_i]
      · rw [ci, ef, zr_bit0 xB (by omega), hB _ (by omega)] at q
        rw [ab1, ts_nf q]; simp
    · have ab1 : zl_ab kd av n (i + 1) = zl_ab kd av n i := by
        show (zl_ab kd av n i && !(kd i == 9 && !(zl_h kd av (av i) n))) = _
        have : (kd i == 9) = false := by rw [beq_eq_false_iff_ne]; exact h9
        rw [this]; simp
      have := ih (i + 1) (by omega) c (fun s u hs hu => by rw [zr_D_oth h9]; exact hc s u hs hu) f (by omega)
      rw [ab1, zs_p_oth h11] at this
      exact this
theorem zk_x2 {post : Int32 → SX → Prop} (H : ∀ c, zr_M c (fun _ _ => false) → ∃ f, wX_listCalls_26 post xL xB xC xP xO xE xK xA xR xQ f (-1) 1 0 xk xf xs xt xv xb c xw xi xm mem bk bT bc ent cs pv) : ∀ d s, s + d = 4 → ∀ c, (∀ q u, q < s → bt (c q) u = false) → ∀ f, d < f → wX_listCalls_2 post xL xB xC xP xO xE xK xA xR xQ f (nI s) xk xf xs xt xv xb c xw xi xm mem bk bT bc ent cs pv := by
  intro d
  induction d with
  | zero =>
    intro s hs c hc f hff
    obtain ⟨f, rfl⟩ : ∃ g, f = g + 1 := ⟨f - 1, by omega⟩
    have e : s = 4 := by omega
    subst e
    exact br_t (nI_le (Nat.le_refl _) (by omega)) (H c (fun q u hq _ => hc q u hq))
  | succ d ih =>
    intro s hs c hc f hff
    obtain ⟨f, rfl⟩ : ∃ g, f = g + 1 := ⟨f - 1, by omega⟩
    refine br_f (nI_ge (b := 4) (by omega) (by omega)) ⟨vp_in_nI (by omega) (by omega), nm_r (e' := upd c s 0) (by rw [zn_cl (by omega)]) (nm_r (nI_1 s) (ih (s + 1) (by omega) _ (fun q u hq => ?_) f (by omega)))⟩
    by_cases e : q = s
    · subst e; rw [pk_us]; exact b_0 u
    · rw [pk_un e]; exact hc q u (by omega)
theorem zk_x {post : Int32 → SX → Prop} (hk : zn_K kd xk) (hf : ∀ i, kd i = 9 ∨ kd i = 11 → xf i = nI (av i) ∧ av i ≤ 3) (hn : n ≤ 48) (hB : ∀ s, s < 4 → bt xB s = zl_h kd av s n) (H : ∀ c, zr_M c (zr_D kd av n) → post (zl_i (zl_ab kd av n n)) (nI n, xB, xC, xP, xO, xE, xK, xA, xR, xQ, xk, xf, xs, xt, xv, xb, c, xw, xi, xm, mem, bk, bT, bc, ent, cs, pv)) : wpX_listCalls post (nI n, xB, xC, xP, xO, xE, xK, xA, xR, xQ, xk, xf, xs, xt, xv, xb, xc, xw, xi, xm, mem, bk, bT, bc, ent, cs, pv) :=
  ⟨5, zk_x2 (fun c hc => ⟨n + 1, zk_x26 hk hf hn hB H n 0 (by omega) c hc (n + 1) (by omega)⟩) 4 0 (by omega) xc (fun q u hq => absurd hq (by omega)) 5 (by omega)⟩
/-! comesBack -/
def zr_dg (M : Nat → Nat → Bool) : Nat → Bool
  | 0 => false
  | i + 1 => zr_dg M i || M i i
theorem zr_dg_f {M : Nat → Nat → Bool} : ∀ i, zr_dg M i = false → ∀ s, s < i → M s s = false := by
  intro i
  induction i with
  | zero => intro _ s hs; omega
  | succ i ih =>
    intro h s hs
    have h' : (zr_dg M i || M i i) = false := h
    rw [Bool.or_eq_false_iff] at h'
    by_cases e : s = i
    · subst e; exact h'.2
    · exact ih h'.1 s (by omega)
theorem zk_b9 {post : Int32 → SX → Prop} {D : Nat → Nat → Bool} {J : Int32 → (Nat → Int32) → (Nat → Int32) → (Nat → Int32) → (Nat → Int32) → (Nat → Int32) → (Nat → Int32) → (Nat → Int32) → (Nat → Int64) → (Nat → Int64) → (Nat → Int32) → (Nat → Int32) → (Nat → Int32) → (Nat → Int32) → (Nat → Int32) → (Nat → Int32) → (Nat → Int32) → (Nat → Int32) → Prop} {m : Nat} (hm : m < 4)
    (H : ∀ c, zr_M c (zr_x D (m + 1)) → J (nI (m + 1)) xk xf xs xt xv xb c xw xi xm mem bk bT bc ent cs pv) : ∀ d s, s + d = 4 → ∀ c, (∀ q u, q < 4 → u < 4 → bt (c q) u = if q < s then zr_x D (m + 1) q u else zr_x D m q u) → ∀ f, d < f → wX_comesBack_9 post J (nI m) xL xB xC xP xO xE xK xA xR xQ f (nI s) xk xf xs xt xv xb c xw xi xm mem bk bT bc ent cs pv := by
  intro d
  induction d with
  | zero =>
    intro s hs c hc f hff
    obtain ⟨f, rfl⟩ : ∃ g, f = g + 1 := ⟨f - 1, by omega⟩
    have e : s = 4 := by omega
    subst e
    refine br_t (nI_le (Nat.le_refl _) (by omega)) (nm_r (nI_1 m) (H c (fun q u hq hu => ?_)))
    rw [hc q u hq hu, if_pos hq]
  | succ d ih =>
    intro s hs c hc f hff
    obtain ⟨f, rfl⟩ : ∃ g, f = g + 1 := ⟨f - 1, by omega⟩
    have vs : vp_in (nI s) 4 := vp_in_nI (by omega) (by omega)
    have vm : vp_in (nI m) 4 := vp_in_nI (by omega) (by omega)
    have es : (nI s).toNatClampNeg = s := zn_cl (by omega)
    have em : (nI m).toNatClampNeg = m := zn_cl (by omega)
    have cS : ∀ u, u < 4 → bt (c s) u = zr_x D m s u := fun u hu => by rw [hc s u (by omega) hu, if_neg (by omega)]
    have cm : ∀ u, u < 4 → bt (c m) u = zr_x D m m u := fun u hu => by
      rw [hc m u hm hu]
      split
      · rw [zr_xs]; cases zr_x D m m u <;> simp
      · rfl
    refine br_f (nI_ge (b := 4) (by omega) (by omega)) ⟨vs, br_c (fun q => nm_r (nI_1 s) (ih (s + 1) (by omega) c (fun p u hp hu => ?_) f (by omega))) (fun q => ⟨vs, vm, vs, nm_r (e' := upd c s (c s ||| c m)) (by rw [es, em]) (nm_r (nI_1 s) (ih (s + 1) (by omega) _ (fun p u hp hu => ?_) f (by omega)))⟩)⟩
    · rw [es, zr_bit0 _ (by omega), cS m hm] at q
      by_cases e : p = s
      · subst e
        rw [if_pos (by omega), cS u hu, zr_xs, q]; simp
      · rw [hc p u hp hu]
        by_cases l : p < s
        · rw [if_pos l, if_pos (by omega)]
        · rw [if_neg l, if_neg (by omega)]
    · rw [es, zr_bit0 _ (by omega), cS m hm] at q
      by_cases e : p = s
      · subst e
        rw [pk_us, if_pos (by omega), b_or, cS u hu, cm u hu, zr_xs, ts_nf q]; simp
      · rw [pk_un e, hc p u hp hu]
        by_cases l : p < s
        · rw [if_pos l, if_pos (by omega)]
        · rw [if_neg l, if_neg (by omega)]
theorem zk_b58 {post : Int32 → SX → Prop} {M : Nat → Nat → Bool} (hM : zr_M xc M) (H : post (zl_i (zr_dg M 4)) (xL, xB, xC, xP, xO, xE, xK, xA, xR, xQ, xk, xf, xs, xt, xv, xb, xc, xw, xi, xm, mem, bk, bT, bc, ent, cs, pv)) : ∀ d s, s + d = 4 → ∀ f, d < f → wX_comesBack_58 post xL xB xC xP xO xE xK xA xR xQ xk xf xs xt xv xb xc xw xi xm mem bk bT bc ent cs pv f (zl_i (zr_dg M s)) (nI s) := by
  intro d
  induction d with
  | zero =>
    intro s hs f hff
    obtain ⟨f, rfl⟩ : ∃ g, f = g + 1 := ⟨f - 1, by omega⟩
    have e : s = 4 := by omega
    subst e
    refine br_t (nI_le (Nat.le_refl _) (by omega)) ⟨?_, H⟩
    unfold zl_i
    split
    · exact narrow_b1
    · exact narrow_b0
  | succ d ih =>
    intro s hs f hff
    obtain ⟨f, rfl⟩ : ∃ g, f = g + 1 := ⟨f - 1, by omega⟩
    have vs : vp_in (nI s) 4 := vp_in_nI (by omega) (by omega)
    have es : (nI s).toNatClampNeg = s := zn_cl (by omega)
    have nx := ih (s + 1) (by omega) f (by omega)
    have d1 : zr_dg M (s + 1) = (zr_dg M s || M s s) := rfl
    refine br_f (nI_ge (b := 4) (by omega) (by omega)) ⟨vs, br_c (fun q => nm_r (nI_1 s) ?_) (fun q => nm_r (nI_1 s) ?_)⟩
    · rw [es, zr_bit0 _ (by omega), hM s s (by omega) (by omega)] at q
      rw [d1, q, Bool.or_false] at nx
      exact nx
    · rw [es, zr_bit0 _ (by omega), hM s s (by omega) (by omega)] at q
      rw [d1, ts_nf q, Bool.or_true] at nx
      exact nx
theorem zk_b2 {post : Int32 → SX → Prop} {D : Nat → Nat → Bool} (H : ∀ c, post (zl_i (zr_dg (zr_x D 4) 4)) (xL, xB, xC, xP, xO, xE, xK, xA, xR, xQ, xk, xf, xs, xt, xv, xb, c, xw, xi, xm, mem, bk, bT, bc, ent, cs, pv)) : ∀ d m, m + d = 4 → ∀ c, zr_M c (zr_x D m) → ∀ f, d < f → wX_comesBack_2 post xL xB xC xP xO xE xK xA xR xQ f (nI m) xk xf xs xt xv xb c xw xi xm mem bk bT bc ent cs pv := by
  intro d
  induction d with
  | zero =>
    intro m hm c hc f hff
    obtain ⟨f, rfl⟩ : ∃ g, f = g + 1 := ⟨f - 1, by omega⟩
    have e : m = 4 := by omega
    subst e
    exact br_t (nI_le (Nat.le_refl _) (by omega)) ⟨5, zk_b58 hc (H c) 4 0 (by omega) 5 (by omega)⟩
  | succ d ih =>
    intro m hm c hc f hff
    obtain ⟨f, rfl⟩ : ∃ g, f = g + 1 := ⟨f - 1, by omega⟩
    refine br_f (nI_ge (b := 4) (by omega) (by omega)) ⟨5, zk_b9 (D := D) (m := m) (by omega) (fun c' hc' => ih (m + 1) (by omega) c' hc' f (by omega)) 4 0 (by omega) c (fun q u hq hu => ?_) 5 (by omega)⟩
    rw [hc q u hq hu, if_neg (by omega)]
theorem zk_b {post : Int32 → SX → Prop} {D : Nat → Nat → Bool} (hD : zr_M xc D) (H : ∀ c, post (zl_i (zr_dg (zr_x D 4) 4)) (xL, xB, xC, xP, xO, xE, xK, xA, xR, xQ, xk, xf, xs, xt, xv, xb, c, xw, xi, xm, mem, bk, bT, bc, ent, cs, pv)) : wpX_comesBack post (xL, xB, xC, xP, xO, xE, xK, xA, xR, xQ, xk, xf, xs, xt, xv, xb, xc, xw, xi, xm, mem, bk, bT, bc, ent, cs, pv) :=
  ⟨5, zk_b2 H 4 0 (by omega) xc hD 5 (by omega)⟩
end ZK
end
section
section ZY
/-! the reference: places, missing bodies, recursion -/
variable {yN yP : Int32} {yk ya yb yc yv yV yC yO yL yR yr : Nat → Int32} {yw ym : Nat → Int64}
variable {kd av : Nat → Nat} {n : Nat}
theorem zy_piece2 {post : Int32 → Prop} (hk : zn_K kd yk) (hf : ∀ i, kd i = 11 → ya i = nI (av i) ∧ av i ≤ 3) : ∀ i, i < 48 → post (zl_pi (zs_p kd av (i + 1))) → ∀ f, i + 1 < f → wY_pieceOf_2 post yN yP yk ya yb yc yv yV yC yO yL yR yr yw ym f (nI i) := by
  intro i
  induction i with
  | zero =>
    intro hi H f hff
    obtain ⟨f, rfl⟩ : ∃ g, f = g + 1 + 1 := ⟨f - 2, by omega⟩
    obtain ⟨k11, _⟩ := hk 0
    have ek := zn_at hk (i := 0) (by omega)
    refine br_f (nI_pos (by omega)) ⟨vp_in_nI (by omega) (by omega), pk_eq (kd 0) 11 (fun h11 => ⟨vp_in_nI (by omega) (by omega), ?_⟩) (fun h11 => nm_r zn_m1 (br_t zn_neg ?_)) ek⟩
    · rw [zn_cl (by omega), (hf 0 h11).1]
      rw [zs_p_body h11, zl_pi_s] at H
      exact H
    · rw [zs_p_oth h11] at H
      exact H
  | succ i ih =>
    intro hi H f hff
    obtain ⟨f, rfl⟩ : ∃ g, f = g + 1 := ⟨f - 1, by omega⟩
    obtain ⟨k11, _⟩ := hk (i + 1)
    have ek := zn_at hk (i := i + 1) (by omega)
    refine br_f (nI_pos (by omega)) ⟨vp_in_nI (by omega) (by omega), pk_eq (kd (i + 1)) 11 (fun h11 => ⟨vp_in_nI (by omega) (by omega), ?_⟩) (fun h11 => nm_r (pk_m1 i) (ih (by omega) ?_ f (by omega))) ek⟩
    · rw [zn_cl (by omega), (hf (i + 1) h11).1]
      rw [zs_p_body h11, zl_pi_s] at H
      exact H
    · rw [zs_p_oth h11] at H
      exact H
theorem zy_piece {post : Int32 → Prop} {i : Nat} (hk : zn_K kd yk) (hf : ∀ i, kd i = 11 → ya i = nI (av i) ∧ av i ≤ 3) (hi : i < 48) (H : post (zl_pi (zs_p kd av (i + 1)))) : wpY_pieceOf post (yN, yP, yk, ya, yb, yc, yv, yV, yC, yO, yL, yR, yr, yw, ym) (nI i) :=
  ⟨i + 2, zy_piece2 hk hf i hi H (i + 2) (by omega)⟩
theorem zy_place2 {post : Int32 → Prop} {s : Nat} (hk : zn_K kd yk) (hf : ∀ i, kd i = 11 → ya i = nI (av i) ∧ av i ≤ 3) (hn : n ≤ 48) (hs : s ≤ 3) (H : post (nI (zs_pl kd av n s))) : ∀ d i, i + d = n → (∀ k, k < i → ¬ (kd k = 11 ∧ av k = s)) → ∀ f, d < f → wY_placeOf_2 post (nI s) (nI n) yP yk ya yb yc yv yV yC yO yL yR yr yw ym f (nI i) := by
  intro d
  induction d with
  | zero =>
    intro i hi hno f hff
    obtain ⟨f, rfl⟩ : ∃ g, f = g + 1 := ⟨f - 1, by omega⟩
    have e : i = n := by omega
    subst e
    refine br_t (nI_le (Nat.le_refl _) (by omega)) ?_
    have eb : zs_b kd av i s = i := zs_b_none hno
    have ep : zs_pl kd av i s = i := if_neg (by omega)
    rw [ep] at H
    exact H
  | succ d ih =>
    intro i hi hno f hff
    obtain ⟨f, rfl⟩ : ∃ g, f = g + 1 := ⟨f - 1, by omega⟩
    obtain ⟨k11, _⟩ := hk i
    have ek := zn_at hk (i := i) (by omega)
    have vi : vp_in (nI i) 48 := vp_in_nI (by omega) (by omega)
    refine br_f (nI_ge (by omega) (by omega)) ⟨vi, pk_eq (kd i) 11 (fun h11 => ⟨vi, ?_⟩) (fun h11 => nm_r (nI_1 i) (ih (i + 1) (by omega) (lt_s hno (fun h => h11 h.1)) f (by omega))) ek⟩
    obtain ⟨ef, ha⟩ := hf i h11
    have ea : ya (nI i).toNatClampNeg = nI (av i) := by rw [zn_cl (by omega)]; exact ef
    refine pk_eq (av i) s (fun e => ?_) (fun e => nm_r (nI_1 i) (ih (i + 1) (by omega) (lt_s hno (fun h => e h.2)) f (by omega))) ea
    have eb : zs_b kd av n s = i := zs_b_eq (by omega) ⟨h11, e⟩ hno
    have ep : zs_pl kd av n s = i + 1 := by
      show (if zs_b kd av n s < n then zs_b kd av n s + 1 else n) = i + 1
      rw [if_pos (by omega), eb]
    rw [ep] at H
    rw [nI_1]
    exact H
theorem zy_place {post : Int32 → Prop} {s : Nat} (hk : zn_K kd yk) (hf : ∀ i, kd i = 11 → ya i = nI (av i) ∧ av i ≤ 3) (hn : n ≤ 48) (hs : s ≤ 3) (H : post (nI (zs_pl kd av n s))) : wpY_placeOf post (nI n, yP, yk, ya, yb, yc, yv, yV, yC, yO, yL, yR, yr, yw, ym) (nI s) :=
  ⟨n + 1, zy_place2 hk hf hn hs H n 0 (by omega) (fun k hk => absurd hk (by omega)) (n + 1) (by omega)⟩
theorem zy_miss2 {post : Int32 → Prop} (hk : zn_K kd yk) (hf : ∀ i, kd i = 9 ∨ kd i = 11 → ya i = nI (av i) ∧ av i ≤ 3) (hn : n ≤ 48) (h1 : zl_ab kd av n n = true → post 0) (h0 : zl_ab kd av n n = false → post 1) : ∀ d i, i + d = n → (∀ j, j < i → kd j = 9 → zl_h kd av (av j) n = true) → ∀ f, d < f → wY_missing_2 post (nI n) yP yk ya yb yc yv yV yC yO yL yR yr yw ym f (nI i) := by
  intro d
  induction d with
  | zero =>
    intro i hi hal f hff
    obtain ⟨f, rfl⟩ : ∃ g, f = g + 1 := ⟨f - 1, by omega⟩
    have e : i = n := by omega
    subst e
    exact br_t (nI_le (Nat.le_refl _) (by omega)) (h1 ((zl_ab_iff i).mpr hal))
  | succ d ih =>
    intro i hi hal f hff
    obtain ⟨f, rfl⟩ : ∃ g, f = g + 1 := ⟨f - 1, by omega⟩
    obtain ⟨k11, _⟩ := hk i
    have ek := zn_at hk (i := i) (by omega)
    have vi : vp_in (nI i) 48 := vp_in_nI (by omega) (by omega)
    refine br_f (nI_ge (by omega) (by omega)) ⟨vi, pk_eq (kd i) 9 (fun h9 => ⟨vi, ?_⟩) (fun h9 => nm_r (nI_1 i) (ih (i + 1) (by omega) (lt_s hal (fun h => absurd h h9)) f (by omega))) ek⟩
    obtain ⟨ef, ha⟩ := hf i (Or.inl h9)
    have ea : ya (nI i).toNatClampNeg = nI (av i) := by rw [zn_cl (by omega)]; exact ef
    rw [ea]
    have hc := zl_c_le (kd := kd) (av := av) (s := av i) n
    refine zl_y hk (fun i h => hf i (Or.inr h)) hn ha (pk_eq (zl_c kd av (av i) n) 0 (fun z => h0 ?_) (fun z => nm_r (nI_1 i) (ih (i + 1) (by omega) (lt_s hal (fun _ => (zl_c_h n).mp (by omega))) f (by omega))))
    rw [Bool.eq_false_iff]
    intro hh
    have := (zl_c_h n).mpr ((zl_ab_iff n).mp hh i (by omega) h9)
    omega
theorem zy_miss {post : Int32 → Prop} (hk : zn_K kd yk) (hf : ∀ i, kd i = 9 ∨ kd i = 11 → ya i = nI (av i) ∧ av i ≤ 3) (hn : n ≤ 48) (h1 : zl_ab kd av n n = true → post 0) (h0 : zl_ab kd av n n = false → post 1) : wpY_missing post (nI n, yP, yk, ya, yb, yc, yv, yV, yC, yO, yL, yR, yr, yw, ym) :=
  ⟨n + 1, zy_miss2 hk hf hn h1 h0 n 0 (by omega) (fun j hj => absurd hj (by omega)) (n + 1) (by omega)⟩
/-! recursion -/
theorem zy_r2 {post : Int32 → SY → Prop} (H : ∀ c, zr_M c (fun _ _ => false) → ∃ f, wY_recursive_22 post yN yP f 0 yk ya yb yc yv yV yC yO yL yR c yw ym) : ∀ d s, s + d = 4 → ∀ c, (∀ q u, q < s → bt (c q) u = false) → ∀ f, d < f → wY_recursive_2 post yN yP f (nI s) yk ya yb yc yv yV yC yO yL yR c yw ym := by
  intro d
  induction d with
  | zero =>
    intro s hs c hc f hff
    obtain ⟨f, rfl⟩ : ∃ g, f = g + 1 := ⟨f - 1, by omega⟩
    have e : s = 4 := by omega
    subst e
    exact br_t (nI_le (Nat.le_refl _) (by omega)) (H c (fun q u hq _ => hc q u hq))
  | succ d ih =>
    intro s hs c hc f hff
    obtain ⟨f, rfl⟩ : ∃ g, f = g + 1 := ⟨f - 1, by omega⟩
    refine br_f (nI_ge (b := 4) (by omega) (by omega)) ⟨vp_in_nI (by omega) (by omega), nm_r (e' := upd c s 0) (by rw [zn_cl (by omega)]) (nm_r (nI_1 s) (ih (s + 1) (by omega) _ (fun q u hq => ?_) f (by omega)))⟩
    by_cases e : q = s
    · subst e; rw [pk_us]; exact b_0 u
    · rw [pk_un e]; exact hc q u (by omega)
theorem zy_r22 {post : Int32 → SY → Prop} (hk : zn_K kd yk) (hf : ∀ i, kd i = 9 ∨ kd i = 11 → ya i = nI (av i) ∧ av i ≤ 3) (hn : n ≤ 48) (H : ∀ c, zr_M c (zr_D kd av n) → ∃ f, wY_recursive_80 post (nI n) yP f 0 yk ya yb yc yv yV yC yO yL yR c yw ym) : ∀ d i, i + d = n → ∀ c, zr_M c (zr_D kd av i) → ∀ f, d < f → wY_recursive_22 post (nI n) yP f (nI i) yk ya yb yc yv yV yC yO yL yR c yw ym := by
  intro d
  induction d with
  | zero =>
    intro i hi c hc f hff
    obtain ⟨f, rfl⟩ : ∃ g, f = g + 1 := ⟨f - 1, by omega⟩
    have e : i = n := by omega
    subst e
    exact br_t (nI_le (Nat.le_refl _) (by omega)) (H c hc)
  | succ d ih =>
    intro i hi c hc f hff
    obtain ⟨f, rfl⟩ : ∃ g, f = g + 1 := ⟨f - 1, by omega⟩
    obtain ⟨k11, _⟩ := hk i
    have ek := zn_at hk (i := i) (by omega)
    have vi : vp_in (nI i) 48 := vp_in_nI (by omega) (by omega)
    have ci : (nI i).toNatClampNeg = i := zn_cl (by omega)
    have pl4 := zs_p_le (kd := kd) (av := av) (fun i h => (hf i (Or.inr h)).2)
    have go : ∀ c', zr_M c' (zr_D kd av (i + 1)) → wY_recursive_22 post (nI n) yP f (nI (i + 1)) yk ya yb yc yv yV yC yO yL yR c' yw ym := fun c' hc' => ih (i + 1) (by omega) c' hc' f (by omega)
    refine br_f (nI_ge (by omega) (by omega)) (zy_piece hk (fun i h => hf i (Or.inr h)) (by omega) ⟨vi, pk_eq (kd i) 9 (fun h9 => ?_) (fun h9 => nm_r (nI_1 i) (go c (fun s u hs hu => by rw [zr_D_oth h9]; exact hc s u hs hu))) ek⟩)
    obtain ⟨ef, ha⟩ := hf i (Or.inl h9)
    have e1 : zs_p kd av (i + 1) = zs_p kd av i := zs_p_oth (by omega)
    have p4 := pl4 i
    rw [e1]
    cases e : zs_p kd av i with
    | zero => exact br_t zn_neg (nm_r (nI_1 i) (go c (fun s u hs hu => by rw [zr_D_main e]; exact hc s u hs hu)))
    | succ p =>
      rw [zl_pi_s]
      have vp : vp_in (nI p) 4 := vp_in_nI (by omega) (by omega)
      have cp : (nI p).toNatClampNeg = p := zn_cl (by omega)
      refine br_f (nI_pos (by omega)) ⟨vp, vi, vp, nm_r (e' := upd c p (c p ||| ((1 : Int32) <<< (nI (av i) &&& 31)))) (by rw [cp, ci, ef]) (nm_r (nI_1 i) (go _ (fun s u hs hu => ?_)))⟩
      rw [zr_D_call h9 e]
      by_cases es : s = p
      · subst es
        rw [pk_us, b_or, hc s u hs hu, zr_shl (by omega) (by omega)]; simp
      · rw [pk_un es, hc s u hs hu, decide_eq_false es]; simp
/-- within a round: what the round's start had, what the pairs so far gave, and no more than the closure -/
def zy_I (D : Nat → Nat → Bool) (r p : Nat) (c : Nat → Int32) : Prop := (∀ s u, s < 4 → u < 4 → zr_x D r s u = true → bt (c s) u = true) ∧ (∀ s t u, s < 4 → t < 4 → u < 4 → 4 * s + t < p → zr_x D r s t = true → zr_x D r t u = true → bt (c s) u = true) ∧ (∀ s u, s < 4 → u < 4 → bt (c s) u = true → zr_x D 4 s u = true)
theorem zy_r87 {post : Int32 → SY → Prop} {D : Nat → Nat → Bool} {J : Int32 → (Nat → Int32) → (Nat → Int32) → (Nat → Int32) → (Nat → Int32) → (Nat → Int32) → (Nat → Int32) → (Nat → Int32) → (Nat → Int32) → (Nat → Int32) → (Nat → Int32) → (Nat → Int32) → (Nat → Int64) → (Nat → Int64) → Prop} {r : Nat} (hr : r < 4)
    (H : ∀ c, zy_I D (r + 1) 0 c → J (nI (r + 1)) yk ya yb yc yv yV yC yO yL yR c yw ym) : ∀ d p, p + d = 16 → ∀ c, zy_I D r p c → ∀ f, d < f → wY_recursive_87 post J (nI r) yN yP f (nI p) yk ya yb yc yv yV yC yO yL yR c yw ym := by
  intro d
  induction d with
  | zero =>
    intro p hp c hc f hff
    obtain ⟨f, rfl⟩ : ∃ g, f = g + 1 := ⟨f - 1, by omega⟩
    have e : p = 16 := by omega
    subst e
    obtain ⟨i1, i2, i3⟩ := hc
    refine br_t (nI_le (Nat.le_refl _) (by omega)) (nm_r (nI_1 r) (H c ⟨fun s u hs hu h => ?_, fun s t u _ _ _ h => absurd h (by omega), i3⟩))
    rw [zr_xs, Bool.or_eq_true, Bool.and_eq_true] at h
    rcases h with h | ⟨h, g⟩
    · exact i1 s u hs hu h
    · exact i2 s r u hs hr hu (by omega) h g
  | succ d ih =>
    intro p hp c hc f hff
    obtain ⟨f, rfl⟩ : ∃ g, f = g + 1 := ⟨f - 1, by omega⟩
    obtain ⟨i1, i2, i3⟩ := hc
    have e4 : nI p >>> ((2 : Int32) &&& 31) = nI (p / 4) := pk_shrN (n := p) (by omega) ((2 : Int32) &&& 31) 2 (by decide)
    have e3 : nI p &&& 3 = nI (p % 4) := pk_andN (n := p) (by omega) 2 (by decide)
    have v4 : vp_in (nI (p / 4)) 4 := vp_in_nI (by omega) (by omega)
    have v3 : vp_in (nI (p % 4)) 4 := vp_in_nI (by omega) (by omega)
    have c4 : (nI (p / 4)).toNatClampNeg = p / 4 := zn_cl (by omega)
    have c3 : (nI (p % 4)).toNatClampNeg = p % 4 := zn_cl (by omega)
    have hs4 : p / 4 < 4 := by omega
    have hs3 : p % 4 < 4 := by omega
    refine br_f (nI_ge (b := 16) (by omega) (by omega)) ?_
    rw [e4, e3]
    refine ⟨v4, br_c (fun q => ⟨v4, v3, v4, nm_r (e' := upd c (p / 4) (c (p / 4) ||| c (p % 4))) (by rw [c4, c3]) (nm_r (nI_1 p) (ih (p + 1) (by omega) _ ⟨fun s u hs hu h => ?_, fun s t u hs ht hu hlt h g => ?_, fun s u hs hu h => ?_⟩ f (by omega)))⟩) (fun q => nm_r (nI_1 p) (ih (p + 1) (by omega) c ⟨i1, fun s t u hs ht hu hlt h g => ?_, i3⟩ f (by omega)))⟩
    · by_cases es : s = p / 4
      · subst es
        rw [pk_us, b_or, i1 _ u hs hu h]; rfl
      · rw [pk_un es]; exact i1 s u hs hu h
    · by_cases es : s = p / 4
      · subst es
        rw [pk_us, b_or]
        by_cases et : t = p % 4
        · subst et
          rw [i1 _ u ht hu g]; simp
        · rw [i2 _ t u hs ht hu (by omega) h g]; rfl
      · rw [pk_un es]; exact i2 s t u hs ht hu (by omega) h g
    · rw [c4, zr_bit1 _ (by omega)] at q
      by_cases es : s = p / 4
      · subst es
        rw [pk_us, b_or, Bool.or_eq_true] at h
        rcases h with h | h
        · exact i3 _ u hs hu h
        · exact zr_x_T _ _ _ hs3 (i3 _ _ hs hs3 q) (i3 _ u hs3 hu h)
      · rw [pk_un es] at h; exact i3 s u hs hu h
    · rw [c4, zr_bit1 _ (by omega)] at q
      by_cases es : 4 * s + t < p
      · exact i2 s t u hs ht hu es h g
      · have a1 : s = p / 4 := by omega
        have a2 : t = p % 4 := by omega
        subst a1; subst a2
        exact absurd (i1 _ _ hs ht h) q
theorem zy_r150 {post : Int32 → SY → Prop} {M : Nat → Nat → Bool} (hM : zr_M yr M) (h1 : zr_dg M 4 = true → post 1 (yN, yP, yk, ya, yb, yc, yv, yV, yC, yO, yL, yR, yr, yw, ym)) (h0 : zr_dg M 4 = false → post 0 (yN, yP, yk, ya, yb, yc, yv, yV, yC, yO, yL, yR, yr, yw, ym)) : ∀ d s, s + d = 4 → zr_dg M s = false → ∀ f, d < f → wY_recursive_150 post yN yP yk ya yb yc yv yV yC yO yL yR yr yw ym f (nI s) := by
  have up : ∀ i, zr_dg M i = true → ∀ j, zr_dg M (i + j) = true := by
    intro i h j
    induction j with
    | zero => exact h
    | succ j ih =>
      show (zr_dg M (i + j) || M (i + j) (i + j)) = true
      rw [ih]; rfl
  intro d
  induction d with
  | zero =>
    intro s hs hz f hff
    obtain ⟨f, rfl⟩ : ∃ g, f = g + 1 := ⟨f - 1, by omega⟩
    have e : s = 4 := by omega
    subst e
    exact br_t (nI_le (Nat.le_refl _) (by omega)) (h0 hz)
  | succ d ih =>
    intro s hs hz f hff
    obtain ⟨f, rfl⟩ : ∃ g, f = g + 1 := ⟨f - 1, by omega⟩
    have vs : vp_in (nI s) 4 := vp_in_nI (by omega) (by omega)
    have es : (nI s).toNatClampNeg = s := zn_cl (by omega)
    have d1 : zr_dg M (s + 1) = (zr_dg M s || M s s) := rfl
    refine br_f (nI_ge (b := 4) (by omega) (by omega)) ⟨vs, br_c (fun q => h1 ?_) (fun q => nm_r (nI_1 s) (ih (s + 1) (by omega) ?_ f (by omega)))⟩
    · rw [es, zr_bit1 _ (by omega), hM s s (by omega) (by omega)] at q
      have := up (s + 1) (by rw [d1, q, Bool.or_true]) (4 - (s + 1))
      rw [show s + 1 + (4 - (s + 1)) = 4 by omega] at this
      exact this
    · rw [es, zr_bit1 _ (by omega), hM s s (by omega) (by omega)] at q
      rw [d1, hz, ts_nt q]; rfl
theorem zy_r80 {post : Int32 → SY → Prop} {D : Nat → Nat → Bool} (h1 : zr_dg (zr_x D 4) 4 = true → ∀ c, post 1 (yN, yP, yk, ya, yb, yc, yv, yV, yC, yO, yL, yR, c, yw, ym)) (h0 : zr_dg (zr_x D 4) 4 = false → ∀ c, post 0 (yN, yP, yk, ya, yb, yc, yv, yV, yC, yO, yL, yR, c, yw, ym)) : ∀ d r, r + d = 4 → ∀ c, zy_I D r 0 c → ∀ f, d < f → wY_recursive_80 post yN yP f (nI r) yk ya yb yc yv yV yC yO yL yR c yw ym := by
  intro d
  induction d with
  | zero =>
    intro r hr c hc f hff
    obtain ⟨f, rfl⟩ : ∃ g, f = g + 1 := ⟨f - 1, by omega⟩
    have e : r = 4 := by omega
    subst e
    obtain ⟨i1, i2, i3⟩ := hc
    have hM : zr_M c (zr_x D 4) := by
      intro s u hs hu
      have a := i1 s u hs hu
      have b := i3 s u hs hu
      cases e1 : bt (c s) u <;> cases e2 : zr_x D 4 s u <;> simp_all
    exact br_t (nI_le (Nat.le_refl _) (by omega)) ⟨5, zy_r150 hM (fun h => h1 h c) (fun h => h0 h c) 4 0 (by omega) rfl 5 (by omega)⟩
  | succ d ih =>
    intro r hr c hc f hff
    obtain ⟨f, rfl⟩ : ∃ g, f = g + 1 := ⟨f - 1, by omega⟩
    exact br_f (nI_ge (b := 4) (by omega) (by omega)) ⟨17, zy_r87 (D := D) (r := r) (by omega) (fun c' hc' => ih (r + 1) (by omega) c' hc' f (by omega)) 16 0 (by omega) c hc 17 (by omega)⟩
theorem zy_rec {post : Int32 → SY → Prop} (hk : zn_K kd yk) (hf : ∀ i, kd i = 9 ∨ kd i = 11 → ya i = nI (av i) ∧ av i ≤ 3) (hn : n ≤ 48) (h1 : zr_dg (zr_x (zr_D kd av n) 4) 4 = true → ∀ c, post 1 (nI n, yP, yk, ya, yb, yc, yv, yV, yC, yO, yL, yR, c, yw, ym)) (h0 : zr_dg (zr_x (zr_D kd av n) 4) 4 = false → ∀ c, post 0 (nI n, yP, yk, ya, yb, yc, yv, yV, yC, yO, yL, yR, c, yw, ym)) : wpY_recursive post (nI n, yP, yk, ya, yb, yc, yv, yV, yC, yO, yL, yR, yr, yw, ym) :=
  ⟨5, zy_r2 (fun c hc => ⟨n + 1, zy_r22 hk hf hn (fun c' hc' => ⟨5, zy_r80 h1 h0 4 0 (by omega) c' ⟨fun s u hs hu h => by rw [hc' s u hs hu]; exact h, fun s t u _ _ _ h => absurd h (by omega), fun s u hs hu h => zr_x_mono (by rw [← hc' s u hs hu]; exact h)⟩ 5 (by omega)⟩) n 0 (by omega) c hc (n + 1) (by omega)⟩) 4 0 (by omega) yr (fun q u hq => absurd hq (by omega)) 5 (by omega)⟩
end ZY
end
section
section ZX
/-! the weights as both sides reckon them -/
variable {xL xB xC xP xO xE xK xA xR xQ : Int32} {xk xf xs xt xv xb xc xm mem bk bT bc ent cs pv : Nat → Int32} {xw xi : Nat → Int64}
variable {yN yP : Int32} {yk ya yb yc yv yV yC yO yL yR yr : Nat → Int32} {yw ym : Nat → Int64}
variable {kd av W : Nat → Nat} {n : Nat}
def zw_y (t : Nat → Int64) : Nat → List Nat → Int64
  | _, [] => 0
  | d, x :: r => t d * lN x + zw_y t (d - 1) r
theorem zw_y_congr {t t' : Nat → Int64} : ∀ (l : List Nat) (d : Nat), (∀ q, q ≤ d → t q = t' q) → zw_y t d l = zw_y t' d l := by
  intro l
  induction l with
  | nil => intro d _; rfl
  | cons x r ih =>
    intro d h
    show t d * lN x + zw_y t (d - 1) r = t' d * lN x + zw_y t' (d - 1) r
    rw [h d (Nat.le_refl _), ih (d - 1) (fun q hq => h q (by omega))]
theorem zw_z0 (a : Int64) : a * lN 0 = 0 := Int64.mul_zero
theorem zw_y_0 (t : Nat → Int64) (d : Nat) (l : List Nat) : zw_y t d (0 :: l) = zw_y t (d - 1) l := by
  show t d * lN 0 + zw_y t (d - 1) l = _
  rw [zw_z0, Int64.zero_add]
theorem zw_l2 (p x y : Nat) : lN (2 + p * x + y) = 2 + lN p * lN x + lN y := by
  rw [← lN_add, ← lN_add, ← lN_mul]; rfl
theorem zw_l1 (w x : Nat) : lN (1 + w + x) = 1 + lN w + lN x := by
  rw [← lN_add, ← lN_add]; rfl
theorem zw_l0 (x : Nat) : lN (1 + x) = 1 + lN x := by
  rw [← lN_add]; rfl
theorem zw_eta {l : List Nat} (h : l ≠ []) : l = l.headD 0 :: l.tail := by
  cases l with
  | nil => exact absurd rfl h
  | cons x r => rfl
theorem zw_yr1 (s a b c : Int64) : s + (a * (1 + b) + c) = s + a + (a * b + c) := by grind
theorem zw_yr2 (s a w b c : Int64) : s + (a * (1 + w + b) + c) = s + a * (1 + w) + (a * b + c) := by grind
theorem zw_yr3 (s a p x y c : Int64) : s + (a * (2 + p * x + y) + c) = s + 2 * a + (a * p * x + (a * y + c)) := by grind
theorem zw_yr4 (s a x y c : Int64) : s + (a * (2 + 1 * x + y) + c) = s + 2 * a + (a * x + (a * y + c)) := by grind
theorem zw_y15 {post : Int64 → SY → Prop} {R : Int64} (hw : zs_WF kd n) (hk : zn_K kd yk) (hf7 : ∀ i, kd i = 7 → ya i = nI (av i) ∧ av i ≤ 5) (hf9 : ∀ i, kd i = 9 → ya i = nI (av i) ∧ av i ≤ 3) (hn : n ≤ 48) (hW : ∀ s, s < 4 → yw s = lN (W s)) (H : ∀ t, post R (nI n, yP, yk, ya, yb, yc, yv, yV, yC, yO, yL, yR, yr, yw, t)) : ∀ d i, i + d = n → ∀ sm t, R = sm + zw_y t (zs_t kd i).length (zw kd av W n i) → ∀ f, d < f → wY_weigh_15 post (nI n) yP f sm (nI (zs_t kd i).length) (nI i) yk ya yb yc yv yV yC yO yL yR yr yw t := by
  intro d
  induction d with
  | zero =>
    intro i hi sm t hR f hff
    obtain ⟨f, rfl⟩ : ∃ g, f = g + 1 := ⟨f - 1, by omega⟩
    have e : i = n := by omega
    subst e
    rw [zw_n, zw_y_0] at hR
    have hR' : R = sm := by rw [hR]; exact Int64.add_zero _
    subst hR'
    exact br_t (nI_le (Nat.le_refl _) (by omega)) (H t)
  | succ d ih =>
    intro i hi sm t hR f hff
    obtain ⟨f, rfl⟩ : ∃ g, f = g + 1 := ⟨f - 1, by omega⟩
    obtain ⟨k11, _⟩ := hk i
    have ek := zn_at hk (i := i) (by omega)
    have vi : vp_in (nI i) 48 := vp_in_nI (by omega) (by omega)
    have ci : (nI i).toNatClampNeg = i := zn_cl (by omega)
    have D3 := hw.2.2.1 i (by omega)
    have vd : vp_in (nI (zs_t kd i).length) 5 := vp_in_nI (by omega) (by omega)
    have cd : (nI (zs_t kd i).length).toNatClampNeg = (zs_t kd i).length := zn_cl (by omega)
    have nx := fun sm t hR => ih (i + 1) (by omega) sm t hR f (by omega)
    refine br_f (nI_ge (by omega) (by omega)) ⟨vi, pk_eq (kd i) 11 (fun h11 => ?_) (fun h11 => ⟨vi, pk_eq (kd i) 8 (fun h8 => ?_) (fun h8 => zy_opens hk (by omega) (fun h67 => br_f (by decide) ⟨vd, ?_⟩) (fun h67 => br_t rfl ⟨vi, pk_eq (kd i) 9 (fun h9 => ⟨vd, vi, ?_⟩) (fun h9 => ⟨vd, ?_⟩) ek⟩)) ek⟩) ek⟩
    · rw [zw_body (by omega) h11, zw_y_0] at hR
      have hR' : R = sm := by rw [hR]; exact Int64.add_zero _
      subst hR'
      exact H t
    · cases e : zs_t kd i with
      | nil => exact absurd e (hw.2.1 i (by omega) h8)
      | cons o os =>
        have e2 : zs_t kd (i + 1) = os := by rw [zs_t_end h8, e]; rfl
        rw [zw_end (by omega) h8, zw_y_0, e] at hR
        rw [e2] at nx
        exact nm_r (pk_m1 os.length) (nm_r (nI_1 i) (nx sm t hR))
    · obtain ⟨x, y, r, e2⟩ := zw_two (av := av) (W := W) hw (by omega) h67
      have e3 : (zs_t kd (i + 1)).length = (zs_t kd i).length + 1 := by rw [zs_t_op h67]; rfl
      rw [e3, e2] at nx
      rw [zw_open (by omega) h67, e2] at hR
      have hR2 : R = sm + (t (zs_t kd i).length * lN (2 + zw_pa kd av i * x + y) + zw_y t ((zs_t kd i).length - 1) r) := hR
      rw [zw_l2] at hR2
      have cd1 : nI (zs_t kd i).length + 1 = nI ((zs_t kd i).length + 1) := nI_1 _
      have vd1 : vp_in (nI ((zs_t kd i).length + 1)) 5 := vp_in_nI (by omega) (by omega)
      have cc1 : (nI ((zs_t kd i).length + 1)).toNatClampNeg = (zs_t kd i).length + 1 := zn_cl (by omega)
      rw [cd]
      refine nm_e ⟨vi, pk_eq (kd i) 7 (fun h7 => ⟨vd, vi, ?_⟩) (fun h7 => ⟨vd, ?_⟩) ek⟩
      · obtain ⟨ea, ha⟩ := hf7 i h7
        rw [cd1, cc1, ci, ea, nI_l (by omega)]
        refine ⟨vd1, nm_e (nm_e (nm_r (nI_1 i) (nx _ _ ?_)))⟩
        have pa : zw_pa kd av i = av i := if_pos h7
        rw [pa] at hR2
        show R = sm + 2 * t (zs_t kd i).length + (vp_updL t ((zs_t kd i).length + 1) (t (zs_t kd i).length * lN (av i)) ((zs_t kd i).length + 1) * lN x + (vp_updL t ((zs_t kd i).length + 1) (t (zs_t kd i).length * lN (av i)) (zs_t kd i).length * lN y + zw_y (vp_updL t ((zs_t kd i).length + 1) (t (zs_t kd i).length * lN (av i))) ((zs_t kd i).length - 1) r))
        rw [pk_uLs, pk_uLn (by omega), zw_y_congr (t := vp_updL t ((zs_t kd i).length + 1) (t (zs_t kd i).length * lN (av i))) (t' := t) r _ (fun q hq => pk_uLn (by omega)), hR2]
        exact zw_yr3 _ _ _ _ _ _
      · rw [cd1, cc1]
        refine ⟨vd1, nm_e (nm_e (nm_r (nI_1 i) (nx _ _ ?_)))⟩
        have pa : zw_pa kd av i = 1 := if_neg h7
        rw [pa] at hR2
        show R = sm + 2 * t (zs_t kd i).length + (vp_updL t ((zs_t kd i).length + 1) (t (zs_t kd i).length) ((zs_t kd i).length + 1) * lN x + (vp_updL t ((zs_t kd i).length + 1) (t (zs_t kd i).length) (zs_t kd i).length * lN y + zw_y (vp_updL t ((zs_t kd i).length + 1) (t (zs_t kd i).length)) ((zs_t kd i).length - 1) r))
        rw [pk_uLs, pk_uLn (by omega), zw_y_congr (t := vp_updL t ((zs_t kd i).length + 1) (t (zs_t kd i).length)) (t' := t) r _ (fun q hq => pk_uLn (by omega)), hR2]
        exact zw_yr4 _ _ _ _ _
    · obtain ⟨ea, ha⟩ := hf9 i h9
      have e2 : zs_t kd (i + 1) = zs_t kd i := zs_t_oth (by omega) (by omega) h8
      rw [e2, zw_eta (zw_ne (av := av) (W := W) hw (i := i + 1) (by omega))] at nx
      rw [zw_call (by omega) h9] at hR
      have hR2 : R = sm + (t (zs_t kd i).length * lN (1 + W (av i) + (zw kd av W n (i + 1)).headD 0) + zw_y t ((zs_t kd i).length - 1) (zw kd av W n (i + 1)).tail) := hR
      rw [zw_l1, zw_yr2] at hR2
      rw [ci, ea, cd, zn_cl (by omega), hW _ (by omega)]
      exact ⟨vp_in_nI (by omega) (by omega), nm_e (nm_r (nI_1 i) (nx _ _ hR2))⟩
    · have e2 : zs_t kd (i + 1) = zs_t kd i := zs_t_oth (by omega) (by omega) h8
      rw [e2, zw_eta (zw_ne (av := av) (W := W) hw (i := i + 1) (by omega))] at nx
      rw [zw_plain (by omega) (by omega) (by omega) h8 h9 h11] at hR
      have hR2 : R = sm + (t (zs_t kd i).length * lN (1 + (zw kd av W n (i + 1)).headD 0) + zw_y t ((zs_t kd i).length - 1) (zw kd av W n (i + 1)).tail) := hR
      rw [zw_l0, zw_yr1] at hR2
      rw [cd]
      exact nm_e (nm_r (nI_1 i) (nx _ _ hR2))
theorem zw_one (hw : zs_WF kd n) {i : Nat} (hi : i ≤ n) (h : zs_t kd i = []) : zw kd av W n i = [(zw kd av W n i).headD 0] := by
  have L := zw_len (av := av) (W := W) hw i hi
  rw [h] at L
  cases e : zw kd av W n i with
  | nil => rw [e] at L; cases L
  | cons x r =>
    cases r with
    | nil => rfl
    | cons y r => rw [e] at L; simp only [List.length_cons, List.length_nil] at L; omega
theorem zw_yW {post : Int64 → SY → Prop} {i : Nat} (hw : zs_WF kd n) (hk : zn_K kd yk) (hf7 : ∀ i, kd i = 7 → ya i = nI (av i) ∧ av i ≤ 5) (hf9 : ∀ i, kd i = 9 → ya i = nI (av i) ∧ av i ≤ 3) (hn : n ≤ 48) (hW : ∀ s, s < 4 → yw s = lN (W s)) (hi : i ≤ n) (h : zs_t kd i = []) (H : ∀ t, post (lN ((zw kd av W n i).headD 0)) (nI n, yP, yk, ya, yb, yc, yv, yV, yC, yO, yL, yR, yr, yw, t)) : wpY_weigh post (nI n, yP, yk, ya, yb, yc, yv, yV, yC, yO, yL, yR, yr, yw, ym) (nI i) := by
  refine nm_e ⟨n + 1, ?_⟩
  have := zw_y15 (R := lN ((zw kd av W n i).headD 0)) hw hk hf7 hf9 hn hW H (n - i) i (by omega) 0 (vp_updL ym 0 1) (by
    rw [zw_one hw hi h, h]
    show lN ((zw kd av W n i).headD 0) = 0 + (vp_updL ym 0 1 0 * lN ((zw kd av W n i).headD 0) + 0)
    rw [pk_uLs, Int64.one_mul, Int64.add_zero, Int64.zero_add]) (n + 1) (by omega)
  rw [h] at this
  exact this
/-! the component's -/
def zw_x (ins : Nat → Int64) (tm : Nat → Int32) : Nat → Int64 → List Nat → Int64
  | 0, v, _ => v
  | d + 1, v, l => zw_x ins tm d (ins d + (2 + (tm (d + 1)).toInt64 * v) + lN (l.headD 0)) l.tail
theorem zw_x_congr {ins ins' : Nat → Int64} {tm tm' : Nat → Int32} : ∀ (d : Nat) (v : Int64) (l : List Nat), (∀ q, q < d → ins q = ins' q) → (∀ q, q ≤ d → tm q = tm' q) → zw_x ins tm d v l = zw_x ins' tm' d v l := by
  intro d
  induction d with
  | zero => intro v l _ _; rfl
  | succ d ih =>
    intro v l h1 h2
    show zw_x ins tm d (ins d + (2 + (tm (d + 1)).toInt64 * v) + lN (l.headD 0)) l.tail = zw_x ins' tm' d (ins' d + (2 + (tm' (d + 1)).toInt64 * v) + lN (l.headD 0)) l.tail
    rw [h1 d (by omega), h2 (d + 1) (Nat.le_refl _), ih _ _ (fun q hq => h1 q (by omega)) (fun q hq => h2 q (by omega))]
theorem zw_xr1 (a b : Int64) : a + (1 + b) = a + 1 + b := by grind
theorem zw_xr2 (a w b : Int64) : a + (1 + w + b) = a + (1 + w) + b := by grind
theorem zw_xr3 (a p x y : Int64) : a + (2 + p * x + y) = a + (2 + p * (0 + x)) + y := by grind
theorem zw_xr5 (a p x y : Int64) : a + (2 + p * (x + 0)) + y = a + (2 + p * x) + y := by grind
theorem zw_x11 {post : Int64 → SX → Prop} {R : Int64} (hw : zs_WF kd n) (hk : zn_K kd xk) (hf7 : ∀ i, kd i = 7 → xf i = nI (av i) ∧ av i ≤ 5) (hf9 : ∀ i, kd i = 9 → xf i = nI (av i) ∧ av i ≤ 3) (hn : n ≤ 48) (hW : ∀ s, s < 4 → xw s = lN (W s)) (H : ∀ a t, post R (nI n, xB, xC, xP, xO, xE, xK, xA, xR, xQ, xk, xf, xs, xt, xv, xb, xc, xw, a, t, mem, bk, bT, bc, ent, cs, pv)) : ∀ d i, i + d = n → ∀ a t, R = zw_x a t (zs_t kd i).length (a (zs_t kd i).length + lN ((zw kd av W n i).headD 0)) (zw kd av W n i).tail → ∀ f, d < f → wX_weightFrom_11 post (nI n) xB xC xP xO xE xK xA xR xQ f (nI (zs_t kd i).length) (nI i) xk xf xs xt xv xb xc xw a t mem bk bT bc ent cs pv := by
  have stop : ∀ a t i, zs_t kd i = [] → zw kd av W n i = [0] → R = zw_x a t (zs_t kd i).length (a (zs_t kd i).length + lN ((zw kd av W n i).headD 0)) (zw kd av W n i).tail → post (a 0) (nI n, xB, xC, xP, xO, xE, xK, xA, xR, xQ, xk, xf, xs, xt, xv, xb, xc, xw, a, t, mem, bk, bT, bc, ent, cs, pv) := by
    intro a t i e1 e2 hR
    rw [e1, e2] at hR
    have hR' : R = a 0 + lN 0 := hR
    have hR2 : R = a 0 := by rw [hR']; exact Int64.add_zero _
    rw [← hR2]
    exact H a t
  intro d
  induction d with
  | zero =>
    intro i hi a t hR f hff
    obtain ⟨f, rfl⟩ : ∃ g, f = g + 1 := ⟨f - 1, by omega⟩
    have e : i = n := by omega
    subst e
    exact br_t (nI_le (Nat.le_refl _) (by omega)) (stop a t i hw.2.2.2 zw_n hR)
  | succ d ih =>
    intro i hi a t hR f hff
    obtain ⟨f, rfl⟩ : ∃ g, f = g + 1 := ⟨f - 1, by omega⟩
    obtain ⟨k11, _⟩ := hk i
    have ek := zn_at hk (i := i) (by omega)
    have vi : vp_in (nI i) 48 := vp_in_nI (by omega) (by omega)
    have ci : (nI i).toNatClampNeg = i := zn_cl (by omega)
    have D3 := hw.2.2.1 i (by omega)
    have vd : vp_in (nI (zs_t kd i).length) 5 := vp_in_nI (by omega) (by omega)
    have cd : (nI (zs_t kd i).length).toNatClampNeg = (zs_t kd i).length := zn_cl (by omega)
    have nx := fun a t hR => ih (i + 1) (by omega) a t hR f (by omega)
    have opn : kd i = 6 ∨ kd i = 7 → wX_weightFrom_52 post (wX_weightFrom_11 post (nI n) xB xC xP xO xE xK xA xR xQ f) (nI (zs_t kd i).length) (nI i) (nI (kd i)) (nI n) xB xC xP xO xE xK xA xR xQ xk xf xs xt xv xb xc xw a t mem bk bT bc ent cs pv := by
      intro h67
      obtain ⟨x, y, r, e2⟩ := zw_two (av := av) (W := W) hw (by omega) h67
      have e3 : (zs_t kd (i + 1)).length = (zs_t kd i).length + 1 := by rw [zs_t_op h67]; rfl
      rw [e3, e2] at nx
      rw [zw_open (by omega) h67, e2] at hR
      have hR2 : R = zw_x a t (zs_t kd i).length (a (zs_t kd i).length + lN (2 + zw_pa kd av i * x + y)) r := hR
      rw [zw_l2, zw_xr3] at hR2
      have vd1 : vp_in (nI ((zs_t kd i).length + 1)) 5 := vp_in_nI (by omega) (by omega)
      have cc1 : (nI ((zs_t kd i).length + 1)).toNatClampNeg = (zs_t kd i).length + 1 := zn_cl (by omega)
      have fin : ∀ m : Int32, m = nI (zw_pa kd av i) → zw_pa kd av i ≤ 5 → R = zw_x (vp_updL a ((zs_t kd i).length + 1) 0) (upd t ((zs_t kd i).length + 1) m) ((zs_t kd i).length + 1) (vp_updL a ((zs_t kd i).length + 1) 0 ((zs_t kd i).length + 1) + lN ((x :: y :: r).headD 0)) (x :: y :: r).tail := by
        intro m hm hp
        show R = zw_x (vp_updL a ((zs_t kd i).length + 1) 0) (upd t ((zs_t kd i).length + 1) m) (zs_t kd i).length (vp_updL a ((zs_t kd i).length + 1) 0 (zs_t kd i).length + (2 + (upd t ((zs_t kd i).length + 1) m ((zs_t kd i).length + 1)).toInt64 * (vp_updL a ((zs_t kd i).length + 1) 0 ((zs_t kd i).length + 1) + lN x)) + lN y) r
        rw [pk_uLs, pk_us, pk_uLn (by omega), hm, nI_l (by omega), hR2]
        exact zw_x_congr _ _ _ (fun q hq => (pk_uLn (by omega)).symm) (fun q hq => (pk_un (by omega)).symm)
      refine nm_r (nI_1 _) ⟨vd1, ?_⟩
      rw [cc1]
      refine nm_e (pk_eq (kd i) 7 (fun h7 => ⟨vi, vd1, ?_⟩) (fun h7 => ⟨vd1, ?_⟩))
      · obtain ⟨ea, ha⟩ := hf7 i h7
        have pa : zw_pa kd av i = av i := if_pos h7
        refine nm_e (nm_r (nI_1 i) (nx _ _ (fin _ ?_ (by omega))))
        rw [ci, ea, pa]
      · have pa : zw_pa kd av i = 1 := if_neg h7
        refine nm_e (nm_r (nI_1 i) (nx _ _ (fin _ ?_ (by omega))))
        rw [pa]; rfl
    refine br_f (nI_ge (by omega) (by omega)) ⟨vi, pk_eq (kd i) 11 (fun h11 => stop a t i (hw.1 i (by omega) h11) (zw_body (by omega) h11) hR) (fun h11 => ⟨vi, nm_r ek (pk_eq (kd i) 7 (fun h7 => opn (Or.inr h7)) (fun h7 => pk_eq (kd i) 6 (fun h6 => opn (Or.inl h6)) (fun h6 => pk_eq (kd i) 8 (fun h8 => ?_) (fun h8 => ⟨vd, pk_eq (kd i) 9 (fun h9 => ⟨vi, ?_⟩) (fun h9 => ⟨vd, ?_⟩)⟩))))⟩) ek⟩
    · cases e : zs_t kd i with
      | nil => exact absurd e (hw.2.1 i (by omega) h8)
      | cons o os =>
        have e2 : zs_t kd (i + 1) = os := by rw [zs_t_end h8, e]; rfl
        rw [e] at D3
        have D3' : os.length + 1 ≤ 3 := D3
        rw [zw_end (by omega) h8, e] at hR
        have hR2 : R = zw_x a t os.length (a os.length + (2 + (t (os.length + 1)).toInt64 * (a (os.length + 1) + 0)) + lN ((zw kd av W n (i + 1)).headD 0)) (zw kd av W n (i + 1)).tail := hR
        rw [zw_xr5] at hR2
        rw [e2] at nx
        have v0 : vp_in (nI os.length) 5 := vp_in_nI (by omega) (by omega)
        have v1 : vp_in (nI (os.length + 1)) 5 := vp_in_nI (by omega) (by omega)
        refine nm_r (pk_m1 os.length) ?_
        rw [nI_1, zn_cl (i := os.length) (by omega), zn_cl (i := os.length + 1) (by omega)]
        refine ⟨v0, v1, v1, v0, nm_e (nm_r (nI_1 i) (nx _ _ ?_))⟩
        rw [pk_uLs, hR2]
        exact zw_x_congr _ _ _ (fun q hq => (pk_uLn (by omega)).symm) (fun q hq => rfl)
    · obtain ⟨ea, ha⟩ := hf9 i h9
      have e2 : zs_t kd (i + 1) = zs_t kd i := zs_t_oth h6 h7 h8
      rw [e2] at nx
      rw [zw_call (by omega) h9] at hR
      have hR2 : R = zw_x a t (zs_t kd i).length (a (zs_t kd i).length + lN (1 + W (av i) + (zw kd av W n (i + 1)).headD 0)) (zw kd av W n (i + 1)).tail := hR
      rw [zw_l1, zw_xr2] at hR2
      rw [ci, ea, cd, zn_cl (i := av i) (by omega), hW _ (by omega)]
      refine ⟨vp_in_nI (by omega) (by omega), vd, nm_e (nm_r (nI_1 i) (nx _ _ ?_))⟩
      rw [pk_uLs, hR2]
      exact zw_x_congr _ _ _ (fun q hq => (pk_uLn (by omega)).symm) (fun q hq => rfl)
    · have e2 : zs_t kd (i + 1) = zs_t kd i := zs_t_oth h6 h7 h8
      rw [e2] at nx
      rw [zw_plain (by omega) h6 h7 h8 h9 h11] at hR
      have hR2 : R = zw_x a t (zs_t kd i).length (a (zs_t kd i).length + lN (1 + (zw kd av W n (i + 1)).headD 0)) (zw kd av W n (i + 1)).tail := hR
      rw [zw_l0, zw_xr1] at hR2
      rw [cd]
      refine nm_e (nm_r (nI_1 i) (nx _ _ ?_))
      rw [pk_uLs, hR2]
      exact zw_x_congr _ _ _ (fun q hq => (pk_uLn (by omega)).symm) (fun q hq => rfl)
theorem zw_xW {post : Int64 → SX → Prop} {i : Nat} (hw : zs_WF kd n) (hk : zn_K kd xk) (hf7 : ∀ i, kd i = 7 → xf i = nI (av i) ∧ av i ≤ 5) (hf9 : ∀ i, kd i = 9 → xf i = nI (av i) ∧ av i ≤ 3) (hn : n ≤ 48) (hW : ∀ s, s < 4 → xw s = lN (W s)) (hi : i ≤ n) (h : zs_t kd i = []) (H : ∀ a t, post (lN ((zw kd av W n i).headD 0)) (nI n, xB, xC, xP, xO, xE, xK, xA, xR, xQ, xk, xf, xs, xt, xv, xb, xc, xw, a, t, mem, bk, bT, bc, ent, cs, pv)) : wpX_weightFrom post (nI n, xB, xC, xP, xO, xE, xK, xA, xR, xQ, xk, xf, xs, xt, xv, xb, xc, xw, xi, xm, mem, bk, bT, bc, ent, cs, pv) (nI i) := by
  refine nm_e ⟨n + 1, ?_⟩
  have := zw_x11 (R := lN ((zw kd av W n i).headD 0)) hw hk hf7 hf9 hn hW H (n - i) i (by omega) (vp_updL xi 0 0) xm (by
    rw [h]
    show lN ((zw kd av W n i).headD 0) = vp_updL xi 0 0 0 + lN ((zw kd av W n i).headD 0)
    rw [pk_uLs, Int64.zero_add]) (n + 1) (by omega)
  rw [h] at this
  exact this
end ZX
end
section
section ZQ
/-! the weights of all bodies; the check as a whole -/
variable {xL xB xC xP xO xE xK xA xR xQ : Int32} {xk xf xs xt xv xb xc xm mem bk bT bc ent cs pv : Nat → Int32} {xw xi : Nat → Int64}
variable {yN yP : Int32} {yk ya yb yc yv yV yC yO yL yR yr : Nat → Int32} {yw ym : Nat → Int64}
variable {kd av W : Nat → Nat} {n : Nat}
theorem zv_miss {s : Nat} (h : ¬ zs_b kd av n s < n) : ∀ t, zv kd av n t s = 0 := by
  intro t
  induction t with
  | zero => rfl
  | succ t ih =>
    by_cases e : t % 4 = s
    · rw [zv_at e]
      unfold zv_v
      have ep : zs_pl kd av n s = n := if_neg h
      rw [ep, zw_n]; rfl
    · rw [zv_else e, ih]
theorem zs_t_pl (hw : zs_WF kd n) (s : Nat) : zs_t kd (zs_pl kd av n s) = [] := by
  by_cases h : zs_b kd av n s < n
  · obtain ⟨_, b, _⟩ := zs_b_spec kd av n s
    have e : zs_pl kd av n s = zs_b kd av n s + 1 := if_pos h
    have k := (b h).1
    rw [e, zs_t_oth (by omega) (by omega) (by omega)]
    exact hw.1 _ h k
  · have e : zs_pl kd av n s = n := if_neg h
    rw [e]; exact hw.2.2.2
theorem zq_up {w : Nat → Int64} {t s : Nat} (hs : s < 4) (ht : t % 4 = s) (hw : ∀ q, q < 4 → w q = lN (zv kd av n t q)) : ∀ q, q < 4 → vp_updL w s (lN ((zw kd av (zv kd av n t) n (zs_pl kd av n s)).headD 0)) q = lN (zv kd av n (t + 1) q) := by
  intro q hq
  by_cases e : q = s
  · subst e; rw [pk_uLs, zv_at ht]; rfl
  · rw [pk_uLn e, zv_else (by omega)]; exact hw q hq
theorem zq_x29 {post : Int64 → SX → Prop} {J : Int32 → Int32 → Int32 → Int32 → Int32 → Int32 → Int32 → Int32 → Int32 → Int32 → Int32 → (Nat → Int32) → (Nat → Int32) → (Nat → Int32) → (Nat → Int32) → (Nat → Int32) → (Nat → Int32) → (Nat → Int32) → (Nat → Int64) → (Nat → Int64) → (Nat → Int32) → (Nat → Int32) → (Nat → Int32) → (Nat → Int32) → (Nat → Int32) → (Nat → Int32) → (Nat → Int32) → (Nat → Int32) → Prop} {r : Nat}
    (hw : zs_WF kd n) (hk : zn_K kd xk) (hf7 : ∀ i, kd i = 7 → xf i = nI (av i) ∧ av i ≤ 5) (hf9 : ∀ i, kd i = 9 → xf i = nI (av i) ∧ av i ≤ 3) (hn : n ≤ 48) (hB : ∀ s, s < 4 → bt xB s = zl_h kd av s n) (hb : ∀ j, j < n → kd j = 11 → xb (av j) = nI j) (hr : r < 4)
    (H : ∀ w a t, (∀ q, q < 4 → w q = lN (zv kd av n (4 * (r + 1)) q)) → J (nI (r + 1)) (nI n) xB xC xP xO xE xK xA xR xQ xk xf xs xt xv xb xc w a t mem bk bT bc ent cs pv) : ∀ d s, s + d = 4 → ∀ w a t, (∀ q, q < 4 → w q = lN (zv kd av n (4 * r + s) q)) → ∀ f, d < f → wX_weightOfMain_29 post J (nI r) f (nI s) (nI n) xB xC xP xO xE xK xA xR xQ xk xf xs xt xv xb xc w a t mem bk bT bc ent cs pv := by
  intro d
  induction d with
  | zero =>
    intro s hs w a t hq f hff
    obtain ⟨f, rfl⟩ : ∃ g, f = g + 1 := ⟨f - 1, by omega⟩
    have e : s = 4 := by omega
    subst e
    exact br_t (nI_le (Nat.le_refl _) (by omega)) (nm_r (nI_1 r) (H w a t hq))
  | succ d ih =>
    intro s hs w a t hq f hff
    obtain ⟨f, rfl⟩ : ∃ g, f = g + 1 := ⟨f - 1, by omega⟩
    have vs : vp_in (nI s) 4 := vp_in_nI (by omega) (by omega)
    have cS : (nI s).toNatClampNeg = s := zn_cl (by omega)
    have es : (4 * r + s) % 4 = s := by omega
    refine br_f (nI_ge (b := 4) (by omega) (by omega)) (br_c (fun q => nm_r (nI_1 s) (ih (s + 1) (by omega) w a t (fun p hp => ?_) f (by omega))) (fun q => ⟨vs, ?_⟩))
    · rw [zr_bit0 _ (by omega), hB s (by omega)] at q
      have hm : ¬ zs_b kd av n s < n := fun h => by rw [zl_h_b.mpr h] at q; cases q
      by_cases e : p = s
      · subst e
        rw [hq p hp, zv_miss hm, zv_miss hm]
      · rw [hq p hp, ← Nat.add_assoc, zv_else (by omega)]
    · rw [zr_bit0 _ (by omega), hB s (by omega)] at q
      have hm : zs_b kd av n s < n := zl_h_b.mp (ts_nf q)
      obtain ⟨_, b, _⟩ := zs_b_spec kd av n s
      have ep : zs_pl kd av n s = zs_b kd av n s + 1 := if_pos hm
      have eb : xb (nI s).toNatClampNeg + 1 = nI (zs_pl kd av n s) := by
        have h2 := hb _ hm (b hm).1
        rw [(b hm).2] at h2
        rw [cS, h2, nI_1, ep]
      rw [eb]
      refine zw_xW (W := zv kd av n (4 * r + s)) hw hk hf7 hf9 hn hq (zs_pl_le s) (zs_t_pl hw s) (fun a' t' => ⟨vs, ?_⟩)
      rw [cS]
      refine nm_e (nm_r (nI_1 s) (ih (s + 1) (by omega) _ a' t' ?_ f (by omega)))
      rw [← Nat.add_assoc]
      exact zq_up (by omega) es hq
theorem zq_x22 {post : Int64 → SX → Prop} (hw : zs_WF kd n) (hk : zn_K kd xk) (hf7 : ∀ i, kd i = 7 → xf i = nI (av i) ∧ av i ≤ 5) (hf9 : ∀ i, kd i = 9 → xf i = nI (av i) ∧ av i ≤ 3) (hn : n ≤ 48) (hB : ∀ s, s < 4 → bt xB s = zl_h kd av s n) (hb : ∀ j, j < n → kd j = 11 → xb (av j) = nI j)
    (H : ∀ w a t, post (lN ((zw kd av (zv kd av n 16) n 0).headD 0)) (nI n, xB, xC, xP, xO, xE, xK, xA, xR, xQ, xk, xf, xs, xt, xv, xb, xc, w, a, t, mem, bk, bT, bc, ent, cs, pv)) : ∀ d r, r + d = 4 → ∀ w a t, (∀ q, q < 4 → w q = lN (zv kd av n (4 * r) q)) → ∀ f, d < f → wX_weightOfMain_22 post f (nI r) (nI n) xB xC xP xO xE xK xA xR xQ xk xf xs xt xv xb xc w a t mem bk bT bc ent cs pv := by
  intro d
  induction d with
  | zero =>
    intro r hr w a t hq f hff
    obtain ⟨f, rfl⟩ : ∃ g, f = g + 1 := ⟨f - 1, by omega⟩
    have e : r = 4 := by omega
    subst e
    exact br_t (nI_le (Nat.le_refl _) (by omega)) (zw_xW (W := zv kd av n 16) (i := 0) hw hk hf7 hf9 hn hq (Nat.zero_le _) rfl (fun a' t' => H w a' t'))
  | succ d ih =>
    intro r hr w a t hq f hff
    obtain ⟨f, rfl⟩ : ∃ g, f = g + 1 := ⟨f - 1, by omega⟩
    exact br_f (nI_ge (b := 4) (by omega) (by omega)) ⟨5, zq_x29 (r := r) hw hk hf7 hf9 hn hB hb (by omega) (fun w' a' t' hq' => ih (r + 1) (by omega) w' a' t' hq' f (by omega)) 4 0 (by omega) w a t hq 5 (by omega)⟩
theorem zq_x2 {post : Int64 → SX → Prop} (H : ∀ w, (∀ q, q < 4 → w q = 0) → ∃ f, wX_weightOfMain_22 post f 0 xL xB xC xP xO xE xK xA xR xQ xk xf xs xt xv xb xc w xi xm mem bk bT bc ent cs pv) : ∀ d s, s + d = 4 → ∀ w, (∀ q, q < s → w q = 0) → ∀ f, d < f → wX_weightOfMain_2 post xL xB xC xP xO xE xK xA xR xQ f (nI s) xk xf xs xt xv xb xc w xi xm mem bk bT bc ent cs pv := by
  intro d
  induction d with
  | zero =>
    intro s hs w hq f hff
    obtain ⟨f, rfl⟩ : ∃ g, f = g + 1 := ⟨f - 1, by omega⟩
    have e : s = 4 := by omega
    subst e
    exact br_t (nI_le (Nat.le_refl _) (by omega)) (H w hq)
  | succ d ih =>
    intro s hs w hq f hff
    obtain ⟨f, rfl⟩ : ∃ g, f = g + 1 := ⟨f - 1, by omega⟩
    refine br_f (nI_ge (b := 4) (by omega) (by omega)) ⟨vp_in_nI (by omega) (by omega), nm_r (e' := vp_updL w s 0) (by rw [zn_cl (by omega)]) (nm_r (nI_1 s) (ih (s + 1) (by omega) _ (fun q hq' => ?_) f (by omega)))⟩
    by_cases e : q = s
    · subst e; exact pk_uLs
    · rw [pk_uLn e]; exact hq q (by omega)
theorem zq_x {post : Int64 → SX → Prop} (hw : zs_WF kd n) (hk : zn_K kd xk) (hf7 : ∀ i, kd i = 7 → xf i = nI (av i) ∧ av i ≤ 5) (hf9 : ∀ i, kd i = 9 → xf i = nI (av i) ∧ av i ≤ 3) (hn : n ≤ 48) (hB : ∀ s, s < 4 → bt xB s = zl_h kd av s n) (hb : ∀ j, j < n → kd j = 11 → xb (av j) = nI j)
    (H : ∀ w a t, post (lN ((zw kd av (zv kd av n 16) n 0).headD 0)) (nI n, xB, xC, xP, xO, xE, xK, xA, xR, xQ, xk, xf, xs, xt, xv, xb, xc, w, a, t, mem, bk, bT, bc, ent, cs, pv)) : wpX_weightOfMain post (nI n, xB, xC, xP, xO, xE, xK, xA, xR, xQ, xk, xf, xs, xt, xv, xb, xc, xw, xi, xm, mem, bk, bT, bc, ent, cs, pv) :=
  ⟨5, zq_x2 (fun w hq => ⟨5, zq_x22 hw hk hf7 hf9 hn hB hb H 4 0 (by omega) w xi xm (fun q h => by rw [hq q h]; rfl) 5 (by omega)⟩) 4 0 (by omega) xw (fun q h => absurd h (by omega)) 5 (by omega)⟩
/-! the reference's -/
theorem zq_y22 {post : Int32 → SY → Prop} (hw : zs_WF kd n) (hk : zn_K kd yk) (hf7 : ∀ i, kd i = 7 → ya i = nI (av i) ∧ av i ≤ 5) (hf9 : ∀ i, kd i = 9 ∨ kd i = 11 → ya i = nI (av i) ∧ av i ≤ 3) (hn : n ≤ 48)
    (h0 : lN ((zw kd av (zv kd av n 16) n 0).headD 0) ≤ 3000 → ∀ w t, post 0 (nI n, yP, yk, ya, yb, yc, yv, yV, yC, yO, yL, yR, yr, w, t)) (h1 : ¬ lN ((zw kd av (zv kd av n 16) n 0).headD 0) ≤ 3000 → ∀ w t, post 1 (nI n, yP, yk, ya, yb, yc, yv, yV, yC, yO, yL, yR, yr, w, t)) : ∀ d p, p + d = 16 → ∀ w t, (∀ q, q < 4 → w q = lN (zv kd av n p q)) → ∀ f, d < f → wY_tooLong_22 post f (nI p) (nI n) yP yk ya yb yc yv yV yC yO yL yR yr w t := by
  intro d
  induction d with
  | zero =>
    intro p hp w t hq f hff
    obtain ⟨f, rfl⟩ : ∃ g, f = g + 1 := ⟨f - 1, by omega⟩
    have e : p = 16 := by omega
    subst e
    exact br_t (nI_le (Nat.le_refl _) (by omega)) (zw_yW (W := zv kd av n 16) (i := 0) hw hk hf7 (fun i h => hf9 i (Or.inl h)) hn hq (Nat.zero_le _) rfl (fun t' => br_c (fun c => h0 c w t') (fun c => h1 c w t')))
  | succ d ih =>
    intro p hp w t hq f hff
    obtain ⟨f, rfl⟩ : ∃ g, f = g + 1 := ⟨f - 1, by omega⟩
    have e3 : nI p &&& 3 = nI (p % 4) := pk_andN (n := p) (by omega) 2 (by decide)
    have v3 : vp_in (nI (p % 4)) 4 := vp_in_nI (by omega) (by omega)
    have c3 : (nI (p % 4)).toNatClampNeg = p % 4 := zn_cl (by omega)
    refine br_f (nI_ge (b := 16) (by omega) (by omega)) ?_
    rw [e3]
    refine zy_place hk (fun i h => hf9 i (Or.inr h)) hn (by omega) (zw_yW (W := zv kd av n p) hw hk hf7 (fun i h => hf9 i (Or.inl h)) hn hq (zs_pl_le _) (zs_t_pl hw _) (fun t' => ⟨v3, ?_⟩))
    rw [c3]
    exact nm_e (nm_r (nI_1 p) (ih (p + 1) (by omega) _ t' (zq_up (by omega) rfl hq) f (by omega)))
theorem zq_y2 {post : Int32 → SY → Prop} (H : ∀ w, (∀ q, q < 4 → w q = 0) → ∃ f, wY_tooLong_22 post f 0 yN yP yk ya yb yc yv yV yC yO yL yR yr w ym) : ∀ d s, s + d = 4 → ∀ w, (∀ q, q < s → w q = 0) → ∀ f, d < f → wY_tooLong_2 post yN yP f (nI s) yk ya yb yc yv yV yC yO yL yR yr w ym := by
  intro d
  induction d with
  | zero =>
    intro s hs w hq f hff
    obtain ⟨f, rfl⟩ : ∃ g, f = g + 1 := ⟨f - 1, by omega⟩
    have e : s = 4 := by omega
    subst e
    exact br_t (nI_le (Nat.le_refl _) (by omega)) (H w hq)
  | succ d ih =>
    intro s hs w hq f hff
    obtain ⟨f, rfl⟩ : ∃ g, f = g + 1 := ⟨f - 1, by omega⟩
    refine br_f (nI_ge (b := 4) (by omega) (by omega)) ⟨vp_in_nI (by omega) (by omega), nm_r (e' := vp_updL w s 0) (by rw [zn_cl (by omega)]) (nm_r (nI_1 s) (ih (s + 1) (by omega) _ (fun q hq' => ?_) f (by omega)))⟩
    by_cases e : q = s
    · subst e; exact pk_uLs
    · rw [pk_uLn e]; exact hq q (by omega)
theorem zq_y {post : Int32 → SY → Prop} (hw : zs_WF kd n) (hk : zn_K kd yk) (hf7 : ∀ i, kd i = 7 → ya i = nI (av i) ∧ av i ≤ 5) (hf9 : ∀ i, kd i = 9 ∨ kd i = 11 → ya i = nI (av i) ∧ av i ≤ 3) (hn : n ≤ 48)
    (h0 : lN ((zw kd av (zv kd av n 16) n 0).headD 0) ≤ 3000 → ∀ w t, post 0 (nI n, yP, yk, ya, yb, yc, yv, yV, yC, yO, yL, yR, yr, w, t)) (h1 : ¬ lN ((zw kd av (zv kd av n 16) n 0).headD 0) ≤ 3000 → ∀ w t, post 1 (nI n, yP, yk, ya, yb, yc, yv, yV, yC, yO, yL, yR, yr, w, t)) : wpY_tooLong post (nI n, yP, yk, ya, yb, yc, yv, yV, yC, yO, yL, yR, yr, yw, ym) :=
  ⟨5, zq_y2 (fun w hq => ⟨17, zq_y22 hw hk hf7 hf9 hn h0 h1 16 0 (by omega) w ym (fun q h => by rw [hq q h]; rfl) 17 (by omega)⟩) 4 0 (by omega) yw (fun q h => absurd h (by omega)) 5 (by omega)⟩
theorem zq_y12 {post : Int32 → SY → Prop} (hk : zn_K kd yk) (hf : ∀ i, kd i = 11 → ya i = nI (av i) ∧ av i ≤ 3) (hn : n ≤ 48) (h0 : zl_nd kd av n = false → post (-4) (nI n, yP, yk, ya, yb, yc, yv, yV, yC, yO, yL, yR, yr, yw, ym)) (h1 : zl_nd kd av n = true → ∀ f, wY_check_12 post (nI n) yP yk ya yb yc yv yV yC yO yL yR yr yw ym (f + 1) (nI 4)) : ∀ d s, s + d = 4 → (∀ q, q < s → zl_c kd av q n ≤ 1) → ∀ f, d < f → wY_check_12 post (nI n) yP yk ya yb yc yv yV yC yO yL yR yr yw ym f (nI s) := by
  have nd := zl_c_nd (kd := kd) (av := av) (fun i h => (hf i h).2) n
  intro d
  induction d with
  | zero =>
    intro s hs hc f hff
    obtain ⟨f, rfl⟩ : ∃ g, f = g + 1 := ⟨f - 1, by omega⟩
    have e : s = 4 := by omega
    subst e
    exact h1 (nd.mpr hc) f
  | succ d ih =>
    intro s hs hc f hff
    obtain ⟨f, rfl⟩ : ∃ g, f = g + 1 := ⟨f - 1, by omega⟩
    have cl := zl_c_le (kd := kd) (av := av) (s := s) n
    refine br_f (nI_ge (b := 4) (by omega) (by omega)) (zl_y hk hf hn (by omega) (pk_le (zl_c kd av s n) 1 (fun h => nm_r (nI_1 s) (ih (s + 1) (by omega) (lt_s hc h) f (by omega))) (fun h => h0 ?_)))
    rw [Bool.eq_false_iff]
    intro hh
    have := nd.mp hh s (by omega)
    omega
/-- what a check that answers OK has shown -/
def zq_G (kd av : Nat → Nat) (n : Nat) : Prop := zs_WF kd n ∧ zl_nd kd av n = true ∧ zl_ab kd av n n = true ∧ zr_dg (zr_x (zr_D kd av n) 4) 4 = false ∧ lN ((zw kd av (zv kd av n 16) n 0).headD 0) ≤ 3000
noncomputable def zq_r (kd av : Nat → Nat) (n : Nat) : Int32 := by
  classical
  exact if zs_WF kd n then (if zl_nd kd av n = true then (if zl_ab kd av n n = true then (if zr_dg (zr_x (zr_D kd av n) 4) 4 = true then -6 else if lN ((zw kd av (zv kd av n 16) n 0).headD 0) ≤ 3000 then 0 else -7) else -5) else -4) else -3
theorem zq_rG : zq_r kd av n = 0 → zq_G kd av n := by
  unfold zq_r
  intro h
  split at h
  · rename_i h1
    split at h
    · rename_i h2
      split at h
      · rename_i h3
        split at h
        · exact absurd h (by decide)
        · rename_i h4
          split at h
          · rename_i h5
            exact ⟨h1, h2, h3, ts_nt h4, h5⟩
          · exact absurd h (by decide)
      · exact absurd h (by decide)
    · exact absurd h (by decide)
  · exact absurd h (by decide)
theorem zq_r3 (h : ¬ zs_WF kd n) : zq_r kd av n = -3 := by
  unfold zq_r; rw [if_neg h]
theorem zq_r4 (h : zs_WF kd n) (h2 : ¬ zl_nd kd av n = true) : zq_r kd av n = -4 := by
  unfold zq_r; rw [if_pos h, if_neg h2]
theorem zq_r5 (h : zs_WF kd n) (h2 : zl_nd kd av n = true) (h3 : ¬ zl_ab kd av n n = true) : zq_r kd av n = -5 := by
  unfold zq_r; rw [if_pos h, if_pos h2, if_neg h3]
theorem zq_r6 (h : zs_WF kd n) (h2 : zl_nd kd av n = true) (h3 : zl_ab kd av n n = true) (h4 : zr_dg (zr_x (zr_D kd av n) 4) 4 = true) : zq_r kd av n = -6 := by
  unfold zq_r; rw [if_pos h, if_pos h2, if_pos h3, if_pos h4]
theorem zq_r7 (h : zs_WF kd n) (h2 : zl_nd kd av n = true) (h3 : zl_ab kd av n n = true) (h4 : zr_dg (zr_x (zr_D kd av n) 4) 4 = false) (h5 : ¬ lN ((zw kd av (zv kd av n 16) n 0).headD 0) ≤ 3000) : zq_r kd av n = -7 := by
  unfold zq_r; rw [if_pos h, if_pos h2, if_pos h3, if_neg (by rw [h4]; decide), if_neg h5]
theorem zq_r0 (h : zs_WF kd n) (h2 : zl_nd kd av n = true) (h3 : zl_ab kd av n n = true) (h4 : zr_dg (zr_x (zr_D kd av n) 4) 4 = false) (h5 : lN ((zw kd av (zv kd av n 16) n 0).headD 0) ≤ 3000) : zq_r kd av n = 0 := by
  unfold zq_r; rw [if_pos h, if_pos h2, if_pos h3, if_neg (by rw [h4]; decide), if_pos h5]
theorem zq_cx {post : Int32 → SX → Prop} (hk : zn_K kd xk) (hf7 : ∀ i, kd i = 7 → xf i = nI (av i) ∧ av i ≤ 5) (hf9 : ∀ i, kd i = 9 ∨ kd i = 11 → xf i = nI (av i) ∧ av i ≤ 3) (hn : n ≤ 48) (H : ∀ B b c w a t, post (zq_r kd av n) (nI n, B, xC, xP, xO, xE, xK, xA, xR, xQ, xk, xf, xs, xt, xv, b, c, w, a, t, mem, bk, bT, bc, ent, cs, pv)) : wpX_check post (nI n, xB, xC, xP, xO, xE, xK, xA, xR, xQ, xk, xf, xs, xt, xv, xb, xc, xw, xi, xm, mem, bk, bT, bc, ent, cs, pv) := by
  refine zb_x hk hn (fun h1 => br_f (by decide) (zl_x hk (fun i h => hf9 i (Or.inr h)) hn (fun B b hB hb => ?_))) (fun h1 => br_t rfl (by rw [← zq_r3 (av := av) h1]; exact H _ _ _ _ _ _))
  cases h2 : zl_nd kd av n with
  | false => exact br_t rfl (by rw [← zq_r4 (av := av) h1 (by rw [h2]; decide)]; exact H _ _ _ _ _ _)
  | true =>
    refine br_f (by decide) (zk_x hk hf9 hn hB (fun c hc => ?_))
    cases h3 : zl_ab kd av n n with
    | false => exact br_t rfl (by rw [← zq_r5 (av := av) h1 h2 (by rw [h3]; decide)]; exact H _ _ _ _ _ _)
    | true =>
      refine br_f (by decide) (zk_b hc (fun c' => ?_))
      cases h4 : zr_dg (zr_x (zr_D kd av n) 4) 4 with
      | true => exact br_f (by decide) (by rw [← zq_r6 (av := av) h1 h2 h3 h4]; exact H _ _ _ _ _ _)
      | false =>
        refine br_t rfl (zq_x h1 hk hf7 (fun i h => hf9 i (Or.inl h)) hn hB (hb h2) (fun w a t => br_c (fun h5 => ?_) (fun h5 => ?_)))
        · rw [← zq_r0 (av := av) h1 h2 h3 h4 h5]; exact H _ _ _ _ _ _
        · rw [← zq_r7 (av := av) h1 h2 h3 h4 h5]; exact H _ _ _ _ _ _
theorem zq_cy {post : Int32 → SY → Prop} (hk : zn_K kd yk) (hf7 : ∀ i, kd i = 7 → ya i = nI (av i) ∧ av i ≤ 5) (hf9 : ∀ i, kd i = 9 ∨ kd i = 11 → ya i = nI (av i) ∧ av i ≤ 3) (hn : n ≤ 48) (H : ∀ c w t, post (zq_r kd av n) (nI n, yP, yk, ya, yb, yc, yv, yV, yC, yO, yL, yR, c, w, t)) : wpY_check post (nI n, yP, yk, ya, yb, yc, yv, yV, yC, yO, yL, yR, yr, yw, ym) := by
  refine zb_y hk hn (fun h1 => br_t rfl ⟨5, zq_y12 hk (fun i h => hf9 i (Or.inr h)) hn (fun h2 => ?_) (fun h2 f => br_t (nI_le (Nat.le_refl _) (by omega)) (zy_miss hk hf9 hn (fun h3 => br_t rfl (zy_rec hk hf9 hn (fun h4 c => br_f (by decide) ?_) (fun h4 c => br_t rfl (zq_y h1 hk hf7 hf9 hn (fun h5 w t => br_t rfl ?_) (fun h5 w t => br_f (by decide) ?_))))) (fun h3 => br_f (by decide) ?_))) 4 0 (by omega) (fun q hq => absurd hq (by omega)) 5 (by omega)⟩) (fun h1 => br_f (by decide) ?_)
  · rw [← zq_r4 (av := av) h1 (by rw [h2]; decide)]; exact H _ _ _
  · rw [← zq_r6 (av := av) h1 h2 h3 h4]; exact H _ _ _
  · rw [← zq_r0 (av := av) h1 h2 h3 h4 h5]; exact H _ _ _
  · rw [← zq_r7 (av := av) h1 h2 h3 h4 h5]; exact H _ _ _
  · rw [← zq_r5 (av := av) h1 h2 (by rw [h3]; decide)]; exact H _ _ _
  · rw [← zq_r3 (av := av) h1]; exact H _ _ _
end ZQ
end
section
section ZI
/-! the compiler: words written, what the statements below t have left in the memory -/
variable {xL xB xC xP xO xE xK xA xR xQ : Int32} {xk xf xs xt xv xb xc xm mem bk bT bc ent cs pv : Nat → Int32} {xw xi : Nat → Int64}
variable {kd av bv cv : Nat → Nat} {n t : Nat} {b hi : Nat → Int32}
theorem zx_emit {post : SX → Prop} {c op a : Nat} {P0 P1 : Int32} (e0 : P0 = nI op) (e1 : P1 = nI a) (hc : c < 1024) (h : post (xL, xB, nI (c + 1), xP, xO, xE, xK, xA, xR, xQ, xk, xf, xs, xt, xv, xb, xc, xw, xi, xm, upd mem c (nI (1024 * op + a)), bk, bT, bc, ent, cs, pv)) : wpX_emit post (xL, xB, nI c, xP, xO, xE, xK, xA, xR, xQ, xk, xf, xs, xt, xv, xb, xc, xw, xi, xm, mem, bk, bT, bc, ent, cs, pv) P0 P1 := by
  subst e0
  subst e1
  refine ⟨vp_in_nI hc (by omega), nm_r (e' := upd mem c (nI (1024 * op + a))) ?_ (nm_r (nI_1 c) h)⟩
  rw [zn_cl (by omega), ← nI_add, ← pk_mul]
  rfl
theorem zx_pool {post : Int32 → SX → Prop} {p : Nat} {v v' : Int32} (ev : v = v') (hp : p < 1024) (h : post (nI p) (xL, xB, xC, nI (p + 1), xO, xE, xK, xA, xR, xQ, xk, xf, xs, xt, xv, xb, xc, xw, xi, xm, upd mem p v', bk, bT, bc, ent, cs, pv)) : wpX_pool post (xL, xB, xC, nI p, xO, xE, xK, xA, xR, xQ, xk, xf, xs, xt, xv, xb, xc, xw, xi, xm, mem, bk, bT, bc, ent, cs, pv) v := by
  subst ev
  exact ⟨vp_in_nI hp (by omega), nm_r (e' := upd mem p v) (by rw [zn_cl (by omega)]) (nm_r (nI_1 p) h)⟩
theorem zi_us {f : Nat → Int32} {k j : Nat} {x : Int32} (h : j = k) : upd f k x j = x := by rw [h]; exact pk_us
def zi_I (kd av bv cv : Nat → Nat) (n : Nat) (b hi : Nat → Int32) (t : Nat) (mem bk bT bc ent cs : Nat → Int32) : Prop :=
  zc_STG kd av bv cv n t mem ∧ zc_POOL kd av b t mem ∧ zc_MZ kd t mem ∧ zc_B kd bk bT bc (zs_t kd t) ∧ (∀ j, j < t → kd j = 11 → ent (av j) = nI (zc_ad kd j + 1)) ∧ (∀ j, j < t → kd j = 9 → cs j = nI (zc_ad kd j + 1)) ∧ (∀ q, 800 ≤ q → q < 840 → mem q = hi q)
theorem zi_step {mem' bk' bT' bc' cs' : Nat → Int32} (hn : n ≤ 48) (ht : t < n) (hI : zi_I kd av bv cv n b hi t mem bk bT bc ent cs) (h8 : kd t = 8 → kd ((zs_t kd t).headD 0) ≠ 6) (h11 : kd t ≠ 11)
    (k1 : ∀ q, q < zc_ad kd t → mem' q = mem q) (k2 : ∀ q, 800 ≤ q → q < zc_po kd t → mem' q = mem q) (k3 : ∀ w, w < zc_sz kd t → ¬ zc_pln kd t w → mem' (zc_ad kd t + w) = nI (zc_g kd av bv cv n (t + 1) t w)) (k4 : 0 < zc_ps kd t → mem' (zc_po kd t) = zc_pv kd av b t)
    (kB : zc_B kd bk' bT' bc' (zs_t kd (t + 1))) (kc : kd t = 9 → cs' t = nI (zc_ad kd t + 1)) (kc2 : ∀ j, j < t → cs' j = cs j) : zi_I kd av bv cv n b hi (t + 1) mem' bk' bT' bc' ent cs' := by
  obtain ⟨i1, i2, i3, i4, i5, i6, i7⟩ := hI
  have P := zc_po_ge (kd := kd) t
  refine ⟨fun j hj w hw hp => ?_, fun j hj hp => ?_, fun j hj h => ?_, kB, fun j hj h => ?_, fun j hj h => ?_, fun q q1 q2 => ?_⟩
  · by_cases e : j = t
    · subst e; exact k3 w hw hp
    · have hj' : j < t := by omega
      have L := zc_ad_lt (kd := kd) hj'
      rw [k1 _ (by omega), i1 j hj' w hw hp, zc_g_keep ht hj' (fun h o os e h2 => ?_) (fun h => absurd h h11)]
      have := h8 h
      rw [e] at this
      exact this h2.1
  · by_cases e : j = t
    · subst e; exact k4 hp
    · have hj' : j < t := by omega
      have L := zc_po_lt (kd := kd) hj'
      have L2 := zc_po_ge (kd := kd) j
      rw [k2 _ (by omega) (by omega)]
      exact i2 j hj' hp
  · have hj' : j < t := by
      by_cases e : j = t
      · subst e; exact absurd h h11
      · omega
    have L := zc_ad_lt (kd := kd) hj'
    have S : 0 < zc_sz kd j := by simp [zc_sz, h]
    rw [k1 _ (by omega)]
    exact i3 j hj' h
  · refine i5 j ?_ h
    by_cases e : j = t
    · subst e; exact absurd h h11
    · omega
  · by_cases e : j = t
    · subst e; exact kc h
    · rw [kc2 j (by omega)]; exact i6 j (by omega) h
  · rw [k2 q q1 (by omega)]; exact i7 q q1 q2
theorem zc_pe_oth (h : kd t ≠ 11) : zc_pe kd (t + 1) = zc_pe kd t := by
  have e : zc_lb kd (t + 1) = zc_lb kd t := if_neg h
  unfold zc_pe
  rw [e]
theorem zi_l {a c : Nat} (e : a = c) : nI a = nI c := by rw [e]
/-- the addresses are small -/
theorem zi_lim (hn : n ≤ 48) (ht : t < n) : zc_ad kd t < 283 ∧ zc_po kd t < 935 ∧ 840 ≤ zc_po kd t := by
  have h1 := zc_ad_le (kd := kd) t
  have h2 := zc_po_le (kd := kd) t
  have h3 := zc_po_ge (kd := kd) t
  omega
theorem zi_set {post : SX → Prop} (hK : zn_K kd xk) (hn : n ≤ 48) (ht : t < n) (hk : kd t = 0) (hf : xf t = b t) (hs : xs t = nI (av t)) (hI : zi_I kd av bv cv n b hi t mem bk bT bc ent cs)
    (H : ∀ m k T c e s, zi_I kd av bv cv n b hi (t + 1) m k T c e s → post (nI n, xB, nI (zc_ad kd (t + 1)), nI (zc_po kd (t + 1)), nI (zs_t kd (t + 1)).length, zc_pe kd (t + 1), xK, xA, xR, xQ, xk, xf, xs, xt, xv, xb, xc, xw, xi, xm, m, k, T, c, e, s, pv)) : wpX_compileArithmetic post (nI n, xB, nI (zc_ad kd t), nI (zc_po kd t), nI (zs_t kd t).length, zc_pe kd t, xK, xA, xR, xQ, xk, xf, xs, xt, xv, xb, xc, xw, xi, xm, mem, bk, bT, bc, ent, cs, pv) (nI t) := by
  obtain ⟨l1, l2, l3⟩ := zi_lim (kd := kd) hn ht
  have sz : zc_sz kd t = 2 := by unfold zc_sz; rw [hk]; rfl
  have ps : zc_ps kd t = 1 := by unfold zc_ps; rw [hk]; rfl
  have st : zs_t kd (t + 1) = zs_t kd t := zs_t_oth (by omega) (by omega) (by omega)
  have vi : vp_in (nI t) 48 := vp_in_nI (by omega) (by omega)
  have ci : (nI t).toNatClampNeg = t := zn_cl (by omega)
  have hB' : zc_B kd bk bT bc (zs_t kd (t + 1)) := by rw [st]; exact hI.2.2.2.1
  have ea : zc_ad kd (t + 1) = zc_ad kd t + 1 + 1 := by rw [zc_ad_s]; omega
  rw [ea, zc_po_s, ps, st, zc_pe_oth (by omega)] at H
  refine ⟨vi, nm_r (zn_at hK (by omega)) (pk_eq (kd t) 0 (fun _ => ⟨vi, zx_pool (v' := b t) (by rw [ci]; exact hf) (by omega) (zx_emit (op := 1) (a := zc_po kd t) rfl rfl (by omega) ⟨vi, zx_emit (op := 2) (a := 800 + av t) rfl (by rw [ci, hs]; exact nI_add 800 _) (by omega) ?_⟩)⟩) (fun h => absurd hk h))⟩
  refine H _ _ _ _ _ _ (zi_step hn ht hI (fun h => absurd h (by omega)) (by omega) (fun q hq => ?_) (fun q q1 q2 => ?_) (fun w hw hp => ?_) (fun _ => ?_) hB' (fun h => by omega) (fun j hj => rfl))
  · rw [pk_un (by omega), pk_un (by omega), pk_un (by omega)]
  · rw [pk_un (by omega), pk_un (by omega), pk_un (by omega)]
  · rw [sz] at hw
    rcases (show w = 0 ∨ w = 1 by omega) with rfl | rfl
    · rw [pk_un (by omega), zi_us (by omega)]; exact zi_l (by simp [zc_g, zc_w, hk])
    · rw [zi_us (by omega)]; exact zi_l (by simp [zc_g, zc_w, hk])
  · rw [pk_un (by omega), pk_un (by omega), zi_us (by omega)]; simp [zc_pv, hk]
theorem zi_arith {post : SX → Prop} (hK : zn_K kd xk) (hn : n ≤ 48) (ht : t < n) (hk1 : 1 ≤ kd t) (hk3 : kd t ≤ 3) (hf : xf t = nI (av t)) (hs : xs t = nI (bv t)) (hc : xt t = nI (cv t)) (hI : zi_I kd av bv cv n b hi t mem bk bT bc ent cs)
    (H : ∀ m k T c e s, zi_I kd av bv cv n b hi (t + 1) m k T c e s → post (nI n, xB, nI (zc_ad kd (t + 1)), nI (zc_po kd (t + 1)), nI (zs_t kd (t + 1)).length, zc_pe kd (t + 1), xK, xA, xR, xQ, xk, xf, xs, xt, xv, xb, xc, xw, xi, xm, m, k, T, c, e, s, pv)) : wpX_compileArithmetic post (nI n, xB, nI (zc_ad kd t), nI (zc_po kd t), nI (zs_t kd t).length, zc_pe kd t, xK, xA, xR, xQ, xk, xf, xs, xt, xv, xb, xc, xw, xi, xm, mem, bk, bT, bc, ent, cs, pv) (nI t) := by
  obtain ⟨l1, l2, l3⟩ := zi_lim (kd := kd) hn ht
  have sz : zc_sz kd t = 3 := by unfold zc_sz; rw [if_neg (by omega), if_pos hk3]
  have ps : zc_ps kd t = 0 := by unfold zc_ps; rw [if_neg (by omega), if_neg (by omega), if_neg (by omega)]
  have st : zs_t kd (t + 1) = zs_t kd t := zs_t_oth (by omega) (by omega) (by omega)
  have vi : vp_in (nI t) 48 := vp_in_nI (by omega) (by omega)
  have ci : (nI t).toNatClampNeg = t := zn_cl (by omega)
  have hB' : zc_B kd bk bT bc (zs_t kd (t + 1)) := by rw [st]; exact hI.2.2.2.1
  have ea : zc_ad kd (t + 1) = zc_ad kd t + 1 + 1 + 1 := by rw [zc_ad_s]; omega
  rw [ea, zc_po_s, ps, st, zc_pe_oth (by omega)] at H
  have w0 : zc_g kd av bv cv n (t + 1) t 0 = 1024 * 1 + (800 + bv t) := by
    unfold zc_g zc_w; rw [if_neg (by omega), if_neg (by omega), if_neg (by omega), if_neg (by omega), if_pos hk3]; rfl
  have w1 : zc_g kd av bv cv n (t + 1) t 1 = 1024 * (kd t + 2) + (800 + cv t) := by
    unfold zc_g zc_w; rw [if_neg (by omega), if_neg (by omega), if_neg (by omega), if_neg (by omega), if_pos hk3]; rfl
  have w2 : zc_g kd av bv cv n (t + 1) t 2 = 1024 * 2 + (800 + av t) := by
    unfold zc_g zc_w; rw [if_neg (by omega), if_neg (by omega), if_neg (by omega), if_neg (by omega), if_pos hk3]; rfl
  have fin : ∀ op, op = kd t + 2 → wX_compileArithmetic_79 post (nI t) (nI op) (nI n) xB (nI (zc_ad kd t + 1)) (nI (zc_po kd t)) (nI (zs_t kd t).length) (zc_pe kd t) xK xA xR xQ xk xf xs xt xv xb xc xw xi xm (upd mem (zc_ad kd t) (nI (1024 * 1 + (800 + bv t)))) bk bT bc ent cs pv := by
    intro op ho
    refine ⟨vi, zx_emit (op := op) (a := 800 + cv t) rfl (by rw [ci, hc]; exact nI_add 800 _) (by omega) ⟨vi, zx_emit (op := 2) (a := 800 + av t) rfl (by rw [ci, hf]; exact nI_add 800 _) (by omega) ?_⟩⟩
    refine H _ _ _ _ _ _ (zi_step hn ht hI (fun h => absurd h (by omega)) (by omega) (fun q hq => ?_) (fun q q1 q2 => ?_) (fun w hw hp => ?_) (fun h => absurd h (by omega)) hB' (fun h => absurd h (by omega)) (fun j hj => rfl))
    · rw [pk_un (by omega), pk_un (by omega), pk_un (by omega)]
    · rw [pk_un (by omega), pk_un (by omega), pk_un (by omega)]
    · rw [sz] at hw
      rcases (show w = 0 ∨ w = 1 ∨ w = 2 by omega) with rfl | rfl | rfl
      · rw [pk_un (by omega), pk_un (by omega), zi_us (by omega), w0]
      · rw [pk_un (by omega), zi_us (by omega), w1, ho]
      · rw [zi_us (by omega), w2]
  refine ⟨vi, nm_r (zn_at hK (by omega)) (pk_eq (kd t) 0 (fun h => absurd h (by omega)) (fun _ => ⟨vi, zx_emit (op := 1) (a := 800 + bv t) rfl (by rw [ci, hs]; exact nI_add 800 _) (by omega) (pk_eq (kd t) 1 (fun h => fin 3 (by omega)) (fun h1 => pk_eq (kd t) 2 (fun h => fin 4 (by omega)) (fun h2 => fin 5 (by omega))))⟩))⟩
theorem zi_get {post : SX → Prop} (hn : n ≤ 48) (ht : t < n) (hk : kd t = 4) (hI : zi_I kd av bv cv n b hi t mem bk bT bc ent cs)
    (H : ∀ m k T c e s, zi_I kd av bv cv n b hi (t + 1) m k T c e s → post (nI n, xB, nI (zc_ad kd (t + 1)), nI (zc_po kd (t + 1)), nI (zs_t kd (t + 1)).length, zc_pe kd (t + 1), xK, xA, xR, xQ, xk, xf, xs, xt, xv, xb, xc, xw, xi, xm, m, k, T, c, e, s, pv)) : wpX_compileGet post (nI n, xB, nI (zc_ad kd t), nI (zc_po kd t), nI (zs_t kd t).length, zc_pe kd t, xK, xA, xR, xQ, xk, xf, xs, xt, xv, xb, xc, xw, xi, xm, mem, bk, bT, bc, ent, cs, pv) (nI (av t)) (nI (bv t)) (nI (cv t)) := by
  obtain ⟨l1, l2, l3⟩ := zi_lim (kd := kd) hn ht
  have sz : zc_sz kd t = 6 := by unfold zc_sz; rw [hk]; rfl
  have ps : zc_ps kd t = 0 := by unfold zc_ps; rw [hk]; rfl
  have st : zs_t kd (t + 1) = zs_t kd t := zs_t_oth (by omega) (by omega) (by omega)
  have hB' : zc_B kd bk bT bc (zs_t kd (t + 1)) := by rw [st]; exact hI.2.2.2.1
  have ea : zc_ad kd (t + 1) = zc_ad kd t + 1 + 1 + 1 + 1 + 1 + 1 := by rw [zc_ad_s]; omega
  rw [ea, zc_po_s, ps, st, zc_pe_oth (by omega)] at H
  unfold wpX_compileGet
  refine zx_emit (op := 1) (a := 800 + cv t) rfl (nI_add 800 _) (by omega) (zx_emit (op := 6) (a := 832) rfl rfl (by omega) (zx_emit (op := 3) (a := 834 + bv t) rfl (nI_add 834 _) (by omega) (zx_emit (op := 2) (a := zc_ad kd t + 1 + 1 + 1 + 1) rfl (nI_1 _) (by omega) (zx_emit (op := 0) (a := 0) rfl rfl (by omega) (zx_emit (op := 2) (a := 800 + av t) rfl (nI_add 800 _) (by omega) ?_)))))
  refine H _ _ _ _ _ _ (zi_step hn ht hI (fun h => absurd h (by omega)) (by omega) (fun q hq => ?_) (fun q q1 q2 => ?_) (fun w hw hp => ?_) (fun h => absurd h (by omega)) hB' (fun h => absurd h (by omega)) (fun j hj => rfl))
  · rw [pk_un (by omega), pk_un (by omega), pk_un (by omega), pk_un (by omega), pk_un (by omega), pk_un (by omega)]
  · rw [pk_un (by omega), pk_un (by omega), pk_un (by omega), pk_un (by omega), pk_un (by omega), pk_un (by omega)]
  · rw [sz] at hw
    rcases (show w = 0 ∨ w = 1 ∨ w = 2 ∨ w = 3 ∨ w = 4 ∨ w = 5 by omega) with rfl | rfl | rfl | rfl | rfl | rfl
    · rw [pk_un (by omega), pk_un (by omega), pk_un (by omega), pk_un (by omega), pk_un (by omega), zi_us (by omega)]; exact zi_l (by simp [zc_g, zc_w, hk])
    · rw [pk_un (by omega), pk_un (by omega), pk_un (by omega), pk_un (by omega), zi_us (by omega)]; exact zi_l (by simp [zc_g, zc_w, hk])
    · rw [pk_un (by omega), pk_un (by omega), pk_un (by omega), zi_us (by omega)]; exact zi_l (by simp [zc_g, zc_w, hk])
    · rw [pk_un (by omega), pk_un (by omega), zi_us (by omega)]; exact zi_l (by simp [zc_g, zc_w, hk])
    · exact absurd (Or.inl ⟨hk, rfl⟩) hp
    · rw [zi_us (by omega)]; exact zi_l (by simp [zc_g, zc_w, hk])
theorem zi_put {post : SX → Prop} (hn : n ≤ 48) (ht : t < n) (hk : kd t = 5) (hI : zi_I kd av bv cv n b hi t mem bk bT bc ent cs)
    (H : ∀ m k T c e s, zi_I kd av bv cv n b hi (t + 1) m k T c e s → post (nI n, xB, nI (zc_ad kd (t + 1)), nI (zc_po kd (t + 1)), nI (zs_t kd (t + 1)).length, zc_pe kd (t + 1), xK, xA, xR, xQ, xk, xf, xs, xt, xv, xb, xc, xw, xi, xm, m, k, T, c, e, s, pv)) : wpX_compilePut post (nI n, xB, nI (zc_ad kd t), nI (zc_po kd t), nI (zs_t kd t).length, zc_pe kd t, xK, xA, xR, xQ, xk, xf, xs, xt, xv, xb, xc, xw, xi, xm, mem, bk, bT, bc, ent, cs, pv) (nI (av t)) (nI (bv t)) (nI (cv t)) := by
  obtain ⟨l1, l2, l3⟩ := zi_lim (kd := kd) hn ht
  have sz : zc_sz kd t = 6 := by unfold zc_sz; rw [hk]; rfl
  have ps : zc_ps kd t = 0 := by unfold zc_ps; rw [hk]; rfl
  have st : zs_t kd (t + 1) = zs_t kd t := zs_t_oth (by omega) (by omega) (by omega)
  have hB' : zc_B kd bk bT bc (zs_t kd (t + 1)) := by rw [st]; exact hI.2.2.2.1
  have ea : zc_ad kd (t + 1) = zc_ad kd t + 1 + 1 + 1 + 1 + 1 + 1 := by rw [zc_ad_s]; omega
  rw [ea, zc_po_s, ps, st, zc_pe_oth (by omega)] at H
  unfold wpX_compilePut
  refine zx_emit (op := 1) (a := 800 + cv t) rfl (nI_add 800 _) (by omega) (zx_emit (op := 6) (a := 832) rfl rfl (by omega) (zx_emit (op := 3) (a := 837 + bv t) rfl (nI_add 837 _) (by omega) (zx_emit (op := 2) (a := zc_ad kd t + 1 + 1 + 1 + 2) rfl (zn_2 _) (by omega) (zx_emit (op := 1) (a := 800 + av t) rfl (nI_add 800 _) (by omega) (zx_emit (op := 0) (a := 0) rfl rfl (by omega) ?_)))))
  refine H _ _ _ _ _ _ (zi_step hn ht hI (fun h => absurd h (by omega)) (by omega) (fun q hq => ?_) (fun q q1 q2 => ?_) (fun w hw hp => ?_) (fun h => absurd h (by omega)) hB' (fun h => absurd h (by omega)) (fun j hj => rfl))
  · rw [pk_un (by omega), pk_un (by omega), pk_un (by omega), pk_un (by omega), pk_un (by omega), pk_un (by omega)]
  · rw [pk_un (by omega), pk_un (by omega), pk_un (by omega), pk_un (by omega), pk_un (by omega), pk_un (by omega)]
  · rw [sz] at hw
    rcases (show w = 0 ∨ w = 1 ∨ w = 2 ∨ w = 3 ∨ w = 4 ∨ w = 5 by omega) with rfl | rfl | rfl | rfl | rfl | rfl
    · rw [pk_un (by omega), pk_un (by omega), pk_un (by omega), pk_un (by omega), pk_un (by omega), zi_us (by omega)]; exact zi_l (by simp [zc_g, zc_w, hk])
    · rw [pk_un (by omega), pk_un (by omega), pk_un (by omega), pk_un (by omega), zi_us (by omega)]; exact zi_l (by simp [zc_g, zc_w, hk])
    · rw [pk_un (by omega), pk_un (by omega), pk_un (by omega), zi_us (by omega)]; exact zi_l (by simp [zc_g, zc_w, hk])
    · rw [pk_un (by omega), pk_un (by omega), zi_us (by omega)]; exact zi_l (by simp [zc_g, zc_w, hk])
    · rw [pk_un (by omega), zi_us (by omega)]; exact zi_l (by simp [zc_g, zc_w, hk])
    · exact absurd (Or.inr (Or.inl ⟨hk, rfl⟩)) hp
end ZI
end
section
section ZJ
/-! the compiler: blocks, calls, bodies -/
variable {xL xB xC xP xO xE xK xA xR xQ : Int32} {xk xf xs xt xv xb xc xm mem bk bT bc ent cs pv : Nat → Int32} {xw xi : Nat → Int64}
variable {kd av bv cv : Nat → Nat} {n t : Nat} {b hi : Nat → Int32}
theorem zj_if {post : SX → Prop} (hw : zs_WF kd n) (hn : n ≤ 48) (ht : t < n) (hk : kd t = 6) (hI : zi_I kd av bv cv n b hi t mem bk bT bc ent cs)
    (H : ∀ m k T c e s, zi_I kd av bv cv n b hi (t + 1) m k T c e s → post (nI n, xB, nI (zc_ad kd (t + 1)), nI (zc_po kd (t + 1)), nI (zs_t kd (t + 1)).length, zc_pe kd (t + 1), xK, xA, xR, xQ, xk, xf, xs, xt, xv, xb, xc, xw, xi, xm, m, k, T, c, e, s, pv)) : wpX_openCondition post (nI n, xB, nI (zc_ad kd t), nI (zc_po kd t), nI (zs_t kd t).length, zc_pe kd t, xK, xA, xR, xQ, xk, xf, xs, xt, xv, xb, xc, xw, xi, xm, mem, bk, bT, bc, ent, cs, pv) (nI (av t)) := by
  obtain ⟨l1, l2, l3⟩ := zi_lim (kd := kd) hn ht
  have sz : zc_sz kd t = 2 := by unfold zc_sz; rw [hk]; rfl
  have ps : zc_ps kd t = 0 := by unfold zc_ps; rw [hk]; rfl
  have st : zs_t kd (t + 1) = t :: zs_t kd t := zs_t_op (Or.inl hk)
  have D3 := hw.2.2.1 (t + 1) ht
  have el : (zs_t kd (t + 1)).length = (zs_t kd t).length + 1 := by rw [st]; rfl
  have vd : vp_in (nI (zs_t kd t).length) 4 := vp_in_nI (by omega) (by omega)
  have cd : (nI (zs_t kd t).length).toNatClampNeg = (zs_t kd t).length := zn_cl (by omega)
  have ea : zc_ad kd (t + 1) = zc_ad kd t + 1 + 1 := by rw [zc_ad_s]; omega
  rw [ea, zc_po_s, ps, el, zc_pe_oth (by omega)] at H
  unfold wpX_openCondition
  refine zx_emit (op := 1) (a := 800 + av t) rfl (nI_add 800 _) (by omega) ⟨vd, nm_r (e' := upd bk (zs_t kd t).length (nI 6)) (by rw [cd, zn_b6]) ⟨vd, nm_r (e' := upd bT (zs_t kd t).length (nI (zc_ad kd t + 1))) (by rw [cd, zn_s (by omega)]) (nm_r (nI_1 _) (zx_emit (op := 8) (a := 0) rfl rfl (by omega) ?_))⟩⟩
  refine H _ _ _ _ _ _ (zi_step hn ht hI (fun h => absurd h (by omega)) (by omega) (fun q hq => ?_) (fun q q1 q2 => ?_) (fun w hw hp => ?_) (fun h => absurd h (by omega)) ?_ (fun h => absurd h (by omega)) (fun j hj => rfl))
  · rw [pk_un (by omega), pk_un (by omega)]
  · rw [pk_un (by omega), pk_un (by omega)]
  · rw [sz] at hw
    rcases (show w = 0 ∨ w = 1 by omega) with rfl | rfl
    · rw [pk_un (by omega), zi_us (by omega)]; exact zi_l (by simp [zc_g, zc_w, hk])
    · rw [zi_us (by omega)]; exact zi_l (by
        unfold zc_g
        rw [if_pos ⟨hk, rfl⟩, if_pos (by rw [st]; exact List.mem_cons_self ..)])
  · rw [st]
    refine ⟨by rw [pk_us, hk], by rw [pk_us, if_pos hk], fun h => by omega, zc_B_up _ hI.2.2.2.1 (fun i hi => ⟨pk_un (by omega), pk_un (by omega), rfl⟩)⟩
theorem zj_loop {post : SX → Prop} (hw : zs_WF kd n) (hn : n ≤ 48) (ht : t < n) (hk : kd t = 7) (hI : zi_I kd av bv cv n b hi t mem bk bT bc ent cs)
    (H : ∀ m k T c e s, zi_I kd av bv cv n b hi (t + 1) m k T c e s → post (nI n, xB, nI (zc_ad kd (t + 1)), nI (zc_po kd (t + 1)), nI (zs_t kd (t + 1)).length, zc_pe kd (t + 1), xK, xA, xR, xQ, xk, xf, xs, xt, xv, xb, xc, xw, xi, xm, m, k, T, c, e, s, pv)) : wpX_openLoop post (nI n, xB, nI (zc_ad kd t), nI (zc_po kd t), nI (zs_t kd t).length, zc_pe kd t, xK, xA, xR, xQ, xk, xf, xs, xt, xv, xb, xc, xw, xi, xm, mem, bk, bT, bc, ent, cs, pv) (nI (av t)) := by
  obtain ⟨l1, l2, l3⟩ := zi_lim (kd := kd) hn ht
  have sz : zc_sz kd t = 2 := by unfold zc_sz; rw [hk]; rfl
  have ps : zc_ps kd t = 2 := by unfold zc_ps; rw [hk]; rfl
  have st : zs_t kd (t + 1) = t :: zs_t kd t := zs_t_op (Or.inr hk)
  have D3 := hw.2.2.1 (t + 1) ht
  have el : (zs_t kd (t + 1)).length = (zs_t kd t).length + 1 := by rw [st]; rfl
  have vd : vp_in (nI (zs_t kd t).length) 4 := vp_in_nI (by omega) (by omega)
  have cd : (nI (zs_t kd t).length).toNatClampNeg = (zs_t kd t).length := zn_cl (by omega)
  have ea : zc_ad kd (t + 1) = zc_ad kd t + 1 + 1 := by rw [zc_ad_s]; omega
  rw [ea, zc_po_s, ps, el, zc_pe_oth (by omega)] at H
  unfold wpX_openLoop
  refine zx_pool (v' := nI (av t)) rfl (by omega) (zx_pool (v' := nI 0) rfl (by omega) (zx_emit (op := 1) (a := zc_po kd t) rfl rfl (by omega) (zx_emit (op := 2) (a := zc_po kd t + 1) rfl rfl (by omega) ⟨vd, nm_r (e' := upd bk (zs_t kd t).length (nI 7)) (by rw [cd, zn_b7]) ⟨vd, nm_r (e' := upd bT (zs_t kd t).length (nI (zc_ad kd t + 1 + 1))) (by rw [cd, zn_s (by omega)]) ⟨vd, nm_r (e' := upd bc (zs_t kd t).length (nI (zc_po kd t + 1))) (by rw [cd, zn_s (by omega)]) (nm_r (nI_1 _) ?_)⟩⟩⟩)))
  refine H _ _ _ _ _ _ (zi_step hn ht hI (fun h => absurd h (by omega)) (by omega) (fun q hq => ?_) (fun q q1 q2 => ?_) (fun w hw hp => ?_) (fun h => ?_) ?_ (fun h => by omega) (fun j hj => rfl))
  · rw [pk_un (by omega), pk_un (by omega), pk_un (by omega), pk_un (by omega)]
  · rw [pk_un (by omega), pk_un (by omega), pk_un (by omega), pk_un (by omega)]
  · rw [sz] at hw
    rcases (show w = 0 ∨ w = 1 by omega) with rfl | rfl
    · rw [pk_un (by omega), zi_us (by omega)]; exact zi_l (by simp [zc_g, zc_w, hk])
    · rw [zi_us (by omega)]; exact zi_l (by simp [zc_g, zc_w, hk])
  · rw [pk_un (by omega), pk_un (by omega), pk_un (by omega), zi_us (by omega)]; simp [zc_pv, hk]
  · rw [st]
    refine ⟨by rw [pk_us, hk], by rw [pk_us, if_neg (by omega), zc_ad_s, sz], fun h => by rw [pk_us], zc_B_up _ hI.2.2.2.1 (fun i hi => ⟨pk_un (by omega), pk_un (by omega), pk_un (by omega)⟩)⟩
theorem zj_print {post : SX → Prop} (hn : n ≤ 48) (ht : t < n) (hk : kd t = 10) (hI : zi_I kd av bv cv n b hi t mem bk bT bc ent cs)
    (H : ∀ m k T c e s, zi_I kd av bv cv n b hi (t + 1) m k T c e s → post (nI n, xB, nI (zc_ad kd (t + 1)), nI (zc_po kd (t + 1)), nI (zs_t kd (t + 1)).length, zc_pe kd (t + 1), xK, xA, xR, xQ, xk, xf, xs, xt, xv, xb, xc, xw, xi, xm, m, k, T, c, e, s, pv)) {P : Int32} (hP : P = nI (av t)) : wpX_emit post (nI n, xB, nI (zc_ad kd t), nI (zc_po kd t), nI (zs_t kd t).length, zc_pe kd t, xK, xA, xR, xQ, xk, xf, xs, xt, xv, xb, xc, xw, xi, xm, mem, bk, bT, bc, ent, cs, pv) 9 (800 + P) := by
  obtain ⟨l1, l2, l3⟩ := zi_lim (kd := kd) hn ht
  have sz : zc_sz kd t = 1 := by unfold zc_sz; rw [hk]; rfl
  have ps : zc_ps kd t = 0 := by unfold zc_ps; rw [hk]; rfl
  have st : zs_t kd (t + 1) = zs_t kd t := zs_t_oth (by omega) (by omega) (by omega)
  have hB' : zc_B kd bk bT bc (zs_t kd (t + 1)) := by rw [st]; exact hI.2.2.2.1
  have ea : zc_ad kd (t + 1) = zc_ad kd t + 1 := by rw [zc_ad_s]; omega
  rw [ea, zc_po_s, ps, st, zc_pe_oth (by omega)] at H
  refine zx_emit (op := 9) (a := 800 + av t) rfl (by rw [hP]; exact nI_add 800 _) (by omega) ?_
  refine H _ _ _ _ _ _ (zi_step hn ht hI (fun h => absurd h (by omega)) (by omega) (fun q hq => ?_) (fun q q1 q2 => ?_) (fun w hw hp => ?_) (fun h => absurd h (by omega)) hB' (fun h => absurd h (by omega)) (fun j hj => rfl))
  · rw [pk_un (by omega)]
  · rw [pk_un (by omega)]
  · rw [sz] at hw
    have e : w = 0 := by omega
    subst e
    rw [zi_us (by omega)]; exact zi_l (by simp [zc_g, zc_w, hk])
theorem zj_call {post : SX → Prop} (hn : n ≤ 48) (ht : t < n) (hk : kd t = 9) (hI : zi_I kd av bv cv n b hi t mem bk bT bc ent cs)
    (H : ∀ m k T c e s, zi_I kd av bv cv n b hi (t + 1) m k T c e s → post (nI n, xB, nI (zc_ad kd (t + 1)), nI (zc_po kd (t + 1)), nI (zs_t kd (t + 1)).length, zc_pe kd (t + 1), xK, xA, xR, xQ, xk, xf, xs, xt, xv, xb, xc, xw, xi, xm, m, k, T, c, e, s, pv)) : wpX_compileCall post (nI n, xB, nI (zc_ad kd t), nI (zc_po kd t), nI (zs_t kd t).length, zc_pe kd t, xK, xA, xR, xQ, xk, xf, xs, xt, xv, xb, xc, xw, xi, xm, mem, bk, bT, bc, ent, cs, pv) (nI t) := by
  obtain ⟨l1, l2, l3⟩ := zi_lim (kd := kd) hn ht
  have sz : zc_sz kd t = 2 := by unfold zc_sz; rw [hk]; rfl
  have ps : zc_ps kd t = 1 := by unfold zc_ps; rw [hk]; rfl
  have st : zs_t kd (t + 1) = zs_t kd t := zs_t_oth (by omega) (by omega) (by omega)
  have vi : vp_in (nI t) 48 := vp_in_nI (by omega) (by omega)
  have ci : (nI t).toNatClampNeg = t := zn_cl (by omega)
  have e7 : (7168 : Int32) + nI (zc_ad kd t) = nI (7168 + zc_ad kd t) := nI_add 7168 _
  have hB' : zc_B kd bk bT bc (zs_t kd (t + 1)) := by rw [st]; exact hI.2.2.2.1
  have ea : zc_ad kd (t + 1) = zc_ad kd t + 1 + 1 := by rw [zc_ad_s]; omega
  rw [ea, zc_po_s, ps, st, zc_pe_oth (by omega)] at H
  refine nm_r (e' := nI (7168 + zc_ad kd t + 2)) (by rw [e7]; exact zn_2 _) (zx_pool rfl (by omega) (zx_emit (op := 1) (a := zc_po kd t) rfl rfl (by omega) ⟨vi, nm_r (e' := upd cs t (nI (zc_ad kd t + 1))) (by rw [ci, zn_s (by omega)]) (zx_emit (op := 7) (a := 0) rfl rfl (by omega) ?_)⟩))
  refine H _ _ _ _ _ _ (zi_step hn ht hI (fun h => absurd h (by omega)) (by omega) (fun q hq => ?_) (fun q q1 q2 => ?_) (fun w hw hp => ?_) (fun h => ?_) hB' (fun h => pk_us) (fun j hj => pk_un (by omega)))
  · rw [pk_un (by omega), pk_un (by omega), pk_un (by omega)]
  · rw [pk_un (by omega), pk_un (by omega), pk_un (by omega)]
  · rw [sz] at hw
    rcases (show w = 0 ∨ w = 1 by omega) with rfl | rfl
    · rw [pk_un (by omega), zi_us (by omega)]; exact zi_l (by simp [zc_g, zc_w, hk])
    · rw [zi_us (by omega)]; exact zi_l (by simp [zc_g, hk])
  · rw [pk_un (by omega), pk_un (by omega), zi_us (by omega)]
    unfold zc_pv
    rw [if_neg (by omega), if_neg (by omega)]
    exact zi_l (by omega)
/-- END: of a condition, its jump gets its target; of a loop, five words -/
theorem zj_end {post : SX → Prop} (hw : zs_WF kd n) (hn : n ≤ 48) (ht : t < n) (hk : kd t = 8) (hI : zi_I kd av bv cv n b hi t mem bk bT bc ent cs)
    (H : ∀ m k T c e s, zi_I kd av bv cv n b hi (t + 1) m k T c e s → post (nI n, xB, nI (zc_ad kd (t + 1)), nI (zc_po kd (t + 1)), nI (zs_t kd (t + 1)).length, zc_pe kd (t + 1), xK, xA, xR, xQ, xk, xf, xs, xt, xv, xb, xc, xw, xi, xm, m, k, T, c, e, s, pv)) : wpX_closeBlock post (nI n, xB, nI (zc_ad kd t), nI (zc_po kd t), nI (zs_t kd t).length, zc_pe kd t, xK, xA, xR, xQ, xk, xf, xs, xt, xv, xb, xc, xw, xi, xm, mem, bk, bT, bc, ent, cs, pv) := by
  obtain ⟨l1, l2, l3⟩ := zi_lim (kd := kd) hn ht
  have ps : zc_ps kd t = 0 := by unfold zc_ps; rw [hk]; rfl
  have D3 := hw.2.2.1 t (by omega)
  cases e : zs_t kd t with
  | nil => exact absurd e (hw.2.1 t ht hk)
  | cons o os =>
    obtain ⟨c1, c2, c3, c4, c5⟩ := zs_close hk e
    have hB := hI.2.2.2.1
    rw [e] at hB D3
    obtain ⟨B1, B2, B3, B4⟩ := hB
    have D3' : os.length + 1 ≤ 3 := D3
    have vd : vp_in (nI os.length) 4 := vp_in_nI (by omega) (by omega)
    have cd : (nI os.length).toNatClampNeg = os.length := zn_cl (by omega)
    have lo := zc_ad_lt (kd := kd) c3
    have lpo := zc_po_lt (kd := kd) c3
    have epe : zc_pe kd (t + 1) = zc_pe kd t := zc_pe_oth (by omega)
    rw [zc_ad_s, zc_po_s, ps, c1, epe] at H
    by_cases h6 : kd o = 6
    · have sz : zc_sz kd t = 0 := by
        unfold zc_sz
        rw [hk, e]
        show (if kd o = 6 then 0 else 5) = 0
        exact if_pos h6
      have so : zc_sz kd o = 2 := by unfold zc_sz; rw [h6]; rfl
      rw [sz] at H
      rw [if_pos h6] at B2
      have vt : vp_in (nI (zc_ad kd o + 1)) 1024 := vp_in_nI (by omega) (by omega)
      have ct : (nI (zc_ad kd o + 1)).toNatClampNeg = zc_ad kd o + 1 := zn_cl (by omega)
      obtain ⟨i1, i2, i3, i4, i5, i6, i7⟩ := hI
      have old : mem (zc_ad kd o + 1) = nI (1024 * 8 + 0) := by
        rw [i1 o c3 1 (by omega) (by intro h; rcases h with h | h | h <;> omega)]
        unfold zc_g
        rw [if_pos ⟨h6, rfl⟩, if_pos (by rw [e]; exact List.mem_cons_self ..)]
      refine nm_r (nI_pred _) ⟨vd, nm_r (e' := nI (zc_ad kd o + 1)) (by rw [cd]; exact B2) ⟨vd, br_t (by rw [cd, B1, h6]; rfl) ⟨vt, vt, nm_r (e' := upd mem (zc_ad kd o + 1) (nI (1024 * 8 + zc_ad kd t))) (by rw [ct, old, nI_add]) ?_⟩⟩⟩
      refine H _ _ _ _ _ _ ⟨fun j hj w hw' hp => ?_, fun j hj hp => ?_, fun j hj h => ?_, by rw [c1]; exact B4, fun j hj h => ?_, fun j hj h => ?_, fun q q1 q2 => ?_⟩
      · have hj' : j < t := by
          by_cases g : j = t
          · subst g; omega
          · omega
        by_cases g : j = o ∧ w = 1
        · obtain ⟨rfl, rfl⟩ := g
          rw [pk_us]
          refine zi_l ?_
          unfold zc_g
          rw [if_pos ⟨h6, rfl⟩, zs_en_eq ht hk e, if_neg, zc_ad_s, sz, Nat.add_zero]
          rw [c1, ← c2]
          intro hm
          have := zs_mem_lt hm
          omega
        · rw [pk_un (fun ee => g (zc_inj hw' (by omega) ee)), i1 j hj' w hw' hp, zc_g_keep ht hj' (fun _ o' os' e' h => ?_) (fun h => by omega)]
          rw [e] at e'
          obtain ⟨rfl, rfl⟩ := List.cons.inj e'
          exact g ⟨h.2.1, h.2.2⟩
      · have hj' : j < t := by
          by_cases g : j = t
          · subst g; omega
          · omega
        have := zc_po_ge (kd := kd) j
        rw [pk_un (by omega)]
        exact i2 j hj' hp
      · have hj' : j < t := by
          by_cases g : j = t
          · subst g; omega
          · omega
        have s1 : 0 < zc_sz kd j := by simp [zc_sz, h]
        rw [pk_un]
        · exact i3 j hj' h
        · intro ee
          have := zc_inj (kd := kd) (j := j) (j' := o) (w := 0) (w' := 1) s1 (by omega) (by omega)
          omega
      · refine i5 j ?_ h
        by_cases g : j = t
        · subst g; omega
        · omega
      · refine i6 j ?_ h
        by_cases g : j = t
        · subst g; omega
        · omega
      · rw [pk_un (by omega)]; exact i7 q q1 q2
    · have h7 : kd o = 7 := by omega
      have sz : zc_sz kd t = 5 := by
        unfold zc_sz
        rw [hk, e]
        show (if kd o = 6 then 0 else 5) = 5
        exact if_neg h6
      have hd : (zs_t kd t).headD 0 = o := by rw [e]; rfl
      have so : zc_ps kd o = 2 := by unfold zc_ps; rw [h7]; rfl
      rw [sz] at H
      rw [if_neg h6] at B2
      refine nm_r (nI_pred _) ⟨vd, nm_r (e' := nI (zc_ad kd (o + 1))) (by rw [cd]; exact B2) ⟨vd, br_f (by rw [cd, B1, h7]; decide) ⟨vd, nm_r (e' := nI (zc_po kd o + 1)) (by rw [cd]; exact B3 h7) (zx_emit (op := 1) (a := zc_po kd o + 1) rfl rfl (by omega) (zx_emit (op := 4) (a := 833) rfl rfl (by omega) (zx_emit (op := 2) (a := zc_po kd o + 1) rfl rfl (by omega) (zx_emit (op := 8) (a := zc_ad kd t + 1 + 1 + 1 + 2) rfl (zn_2 _) (by omega) (zx_emit (op := 7) (a := zc_ad kd (o + 1)) rfl rfl (by omega) ?_)))))⟩⟩⟩
      refine H _ _ _ _ _ _ (zi_step hn ht hI (fun _ => by rw [hd]; exact h6) (by omega) (fun q hq => ?_) (fun q q1 q2 => ?_) (fun w hw hp => ?_) (fun h => by omega) (by rw [c1]; exact B4) (fun h => by omega) (fun j hj => rfl))
      · rw [pk_un (by omega), pk_un (by omega), pk_un (by omega), pk_un (by omega), pk_un (by omega)]
      · rw [pk_un (by omega), pk_un (by omega), pk_un (by omega), pk_un (by omega), pk_un (by omega)]
      · rw [sz] at hw
        rcases (show w = 0 ∨ w = 1 ∨ w = 2 ∨ w = 3 ∨ w = 4 by omega) with rfl | rfl | rfl | rfl | rfl
        · rw [pk_un (by omega), pk_un (by omega), pk_un (by omega), pk_un (by omega), zi_us (by omega)]; exact zi_l (by simp [zc_g, zc_w, hk, e])
        · rw [pk_un (by omega), pk_un (by omega), pk_un (by omega), zi_us (by omega)]; exact zi_l (by simp [zc_g, zc_w, hk])
        · rw [pk_un (by omega), pk_un (by omega), zi_us (by omega)]; exact zi_l (by simp [zc_g, zc_w, hk, e])
        · rw [pk_un (by omega), zi_us (by omega)]; exact zi_l (by simp [zc_g, zc_w, hk])
        · rw [zi_us (by omega)]; exact zi_l (by simp [zc_g, zc_w, hk, e])
end ZJ
end
section
section ZM
/-! the compiler: the pieces' ends, one statement, all statements, the calls -/
variable {xL xB xC xP xO xE xK xA xR xQ : Int32} {xk xf xs xt xv xb xc xm mem bk bT bc ent cs pv : Nat → Int32} {xw xi : Nat → Int64}
variable {kd av bv cv : Nat → Nat} {n t : Nat} {b hi : Nat → Int32}
theorem zc_sz11 {j : Nat} (h : kd j = 11) : zc_sz kd j = 2 := by simp [zc_sz, h]
theorem zc_sz9 {j : Nat} (h : kd j = 9) : zc_sz kd j = 2 := by simp [zc_sz, h]
def zm_g (kd av bv cv : Nat → Nat) (n t j w : Nat) : Nat := if kd j = 11 ∧ w = 1 then 1024 * 2 + zc_ad kd (zs_e kd n (j + 1)) else zc_g kd av bv cv n t j w
def zm_P (kd av bv cv : Nat → Nat) (n t : Nat) (mem m : Nat → Int32) : Prop := (∀ j, j < t → ∀ w, w < zc_sz kd j → ¬ zc_pln kd j w → m (zc_ad kd j + w) = nI (zm_g kd av bv cv n t j w)) ∧ (∀ q, (∀ j, j < t → kd j = 11 → q ≠ zc_ad kd j + 1) → m q = mem q)
theorem zm_fin {post : SX → Prop} (hn : n ≤ 48) (ht : t ≤ n) (hk : t < n → kd t = 11) (hI : zi_I kd av bv cv n b hi t mem bk bT bc ent cs)
    (H : ∀ m, zm_P kd av bv cv n t mem m → post (nI n, xB, nI (zc_ad kd t + 1), nI (zc_po kd t), nI (zs_t kd t).length, zc_pe kd t, xK, xA, xR, xQ, xk, xf, xs, xt, xv, xb, xc, xw, xi, xm, upd m (zc_ad kd t) (nI (1024 * 0 + 0)), bk, bT, bc, ent, cs, pv)) : wpX_finishPiece post (nI n, xB, nI (zc_ad kd t), nI (zc_po kd t), nI (zs_t kd t).length, zc_pe kd t, xK, xA, xR, xQ, xk, xf, xs, xt, xv, xb, xc, xw, xi, xm, mem, bk, bT, bc, ent, cs, pv) := by
  have la := zc_ad_le (kd := kd) t
  cases e : zc_lb kd t with
  | zero =>
    have pe : zc_pe kd t = -1 := by unfold zc_pe; rw [if_pos e]
    rw [pe] at H ⊢
    refine br_t zn_neg (zx_emit (op := 0) (a := 0) rfl rfl (by omega) (H mem ⟨fun j hj w hw hp => ?_, fun q _ => rfl⟩))
    unfold zm_g
    rw [if_neg (fun h => zc_lb_0 t e j hj h.1)]
    exact hI.1 j hj w hw hp
  | succ i =>
    obtain ⟨a1, a2, a3⟩ := zc_lb_s t i e
    have s2 := zc_sz11 a2
    have lo := zc_ad_lt (kd := kd) a1
    have pe : zc_pe kd t = nI (zc_ad kd i + 1) := by unfold zc_pe; rw [if_neg (by omega), e]; rfl
    have ee := zc_e_last ht e hk
    have old : mem (zc_ad kd i + 1) = nI (1024 * 2 + 0) := by
      rw [hI.1 i a1 1 (by omega) (by intro h; rcases h with h | h | h <;> omega)]
      refine zi_l ?_
      unfold zc_g
      rw [if_neg (by omega), if_neg (by omega), if_pos ⟨a2, rfl⟩, ee, if_neg (by omega)]
    have vt : vp_in (nI (zc_ad kd i + 1)) 1024 := vp_in_nI (by omega) (by omega)
    have ct : (nI (zc_ad kd i + 1)).toNatClampNeg = zc_ad kd i + 1 := zn_cl (by omega)
    rw [pe] at H ⊢
    refine br_f (nI_pos (by omega)) ⟨vt, vt, nm_r (e' := upd mem (zc_ad kd i + 1) (nI (1024 * 2 + zc_ad kd t))) (by rw [ct, old, nI_add]) (zx_emit (op := 0) (a := 0) rfl rfl (by omega) (H _ ⟨fun j hj w hw hp => ?_, fun q hq => pk_un (hq i a1 a2)⟩))⟩
    unfold zm_g
    by_cases g : kd j = 11 ∧ w = 1
    · rw [if_pos g]
      obtain ⟨g1, rfl⟩ := g
      by_cases ji : j = i
      · subst ji
        rw [pk_us, ee]
      · have lt := zc_e_other (n := n) ht e hj g1 ji
        rw [pk_un (fun h => ji (zc_inj (by omega) (by omega) h).1), hI.1 j hj 1 hw hp]
        refine zi_l ?_
        unfold zc_g
        rw [if_neg (by omega), if_neg (by omega), if_pos ⟨g1, rfl⟩, if_pos lt]
    · rw [if_neg g, pk_un, hI.1 j hj w hw hp]
      intro h
      obtain ⟨rfl, rfl⟩ := zc_inj (kd := kd) hw (by omega) h
      exact g ⟨a2, rfl⟩
theorem zm_body {post : SX → Prop} (hn : n ≤ 48) (ht : t < n) (hk : kd t = 11) (ha : av t ≤ 3) (hnd : zl_nd kd av n = true) (hI : zi_I kd av bv cv n b hi t mem bk bT bc ent cs)
    (H : ∀ m k T c e s, zi_I kd av bv cv n b hi (t + 1) m k T c e s → post (nI n, xB, nI (zc_ad kd (t + 1)), nI (zc_po kd (t + 1)), nI (zs_t kd (t + 1)).length, zc_pe kd (t + 1), xK, xA, xR, xQ, xk, xf, xs, xt, xv, xb, xc, xw, xi, xm, m, k, T, c, e, s, pv)) : wpX_startBody post (nI n, xB, nI (zc_ad kd t), nI (zc_po kd t), nI (zs_t kd t).length, zc_pe kd t, xK, xA, xR, xQ, xk, xf, xs, xt, xv, xb, xc, xw, xi, xm, mem, bk, bT, bc, ent, cs, pv) (nI (av t)) := by
  obtain ⟨l1, l2, l3⟩ := zi_lim (kd := kd) hn ht
  have sz : zc_sz kd t = 2 := zc_sz11 hk
  have ps : zc_ps kd t = 0 := by unfold zc_ps; rw [hk]; rfl
  have st : zs_t kd (t + 1) = zs_t kd t := zs_t_oth (by omega) (by omega) (by omega)
  have hB' : zc_B kd bk bT bc (zs_t kd (t + 1)) := by rw [st]; exact hI.2.2.2.1
  have ea : zc_ad kd (t + 1) = zc_ad kd t + 1 + 1 := by rw [zc_ad_s]; omega
  have lb : zc_lb kd (t + 1) = t + 1 := if_pos hk
  have pe : zc_pe kd (t + 1) = nI (zc_ad kd t + 1) := by unfold zc_pe; rw [lb, if_neg (by omega)]; rfl
  rw [ea, zc_po_s, ps, st, pe] at H
  have va : vp_in (nI (av t)) 4 := vp_in_nI (by omega) (by omega)
  have ca : (nI (av t)).toNatClampNeg = av t := zn_cl (by omega)
  unfold wpX_startBody
  refine zm_fin hn (by omega) (fun _ => hk) hI (fun m hm => ⟨va, nm_r (e' := upd ent (av t) (nI (zc_ad kd t + 1))) (by rw [ca, zn_s (by omega)]) (zx_emit (op := 2) (a := 0) rfl rfl (by omega) ?_)⟩)
  obtain ⟨m1, m2⟩ := hm
  obtain ⟨i1, i2, i3, i4, i5, i6, i7⟩ := hI
  have far : ∀ q, 288 ≤ q → m q = mem q := fun q hq => m2 q (fun j hj h => by
    have := zc_ad_lt (kd := kd) hj
    have := zc_sz11 h
    omega)
  refine H _ _ _ _ _ _ ⟨fun j hj w hw hp => ?_, fun j hj hp => ?_, fun j hj h => ?_, hB', fun j hj h => ?_, fun j hj h => ?_, fun q q1 q2 => ?_⟩
  · by_cases e : j = t
    · subst e
      rcases (show w = 0 ∨ w = 1 by omega) with rfl | rfl
      · exact absurd (Or.inr (Or.inr ⟨hk, rfl⟩)) hp
      · rw [zi_us (by omega)]
        refine zi_l ?_
        obtain ⟨s1, _⟩ := zs_e_spec kd n (i := j + 1) (by omega)
        unfold zc_g
        rw [if_neg (by omega), if_neg (by omega), if_pos ⟨hk, rfl⟩, if_neg (by omega)]
    · have hj' : j < t := by omega
      have L := zc_ad_lt (kd := kd) hj'
      rw [pk_un (by omega), pk_un (by omega), m1 j hj' w hw hp]
      refine zi_l ?_
      unfold zm_g
      by_cases g : kd j = 11 ∧ w = 1
      · obtain ⟨g1, rfl⟩ := g
        rw [if_pos ⟨g1, rfl⟩]
        obtain ⟨s1, s2, s3, s4⟩ := zs_e_spec kd n (i := j + 1) (by omega)
        have le : zs_e kd n (j + 1) < t + 1 := by
          by_cases g : zs_e kd n (j + 1) ≤ t
          · omega
          · exact absurd hk (s4 t (by omega) (by omega))
        unfold zc_g
        rw [if_neg (by omega), if_neg (by omega), if_pos ⟨g1, rfl⟩, if_pos le]
      · rw [if_neg g]
        refine (zc_g_keep ht hj' (fun h => absurd h (by omega)) (fun _ h => ?_)).symm
        obtain ⟨_, a2, _⟩ := zc_lb_s t j h.2
        exact g ⟨a2, h.1⟩
  · have hj' : j < t := by
      by_cases g : j = t
      · subst g; omega
      · omega
    have := zc_po_ge (kd := kd) j
    rw [pk_un (by omega), pk_un (by omega), far _ (by omega)]
    exact i2 j hj' hp
  · by_cases e : j = t
    · subst e
      rw [pk_un (by omega), zi_us rfl]; rfl
    · have hj' : j < t := by omega
      have L := zc_ad_lt (kd := kd) hj'
      have S := zc_sz11 h
      rw [pk_un (by omega), pk_un (by omega), m2 _ (fun i hi h2 ee => ?_)]
      · exact i3 j hj' h
      · have := zc_inj (kd := kd) (j := j) (j' := i) (w := 0) (w' := 1) (by omega) (by rw [zc_sz11 h2]; omega) (by omega)
        omega
  · by_cases e : j = t
    · subst e; exact pk_us
    · have hj' : j < t := by omega
      rw [pk_un ((zl_nd_iff n).mp hnd j t hj' ht h hk)]
      exact i5 j hj' h
  · refine i6 j ?_ h
    by_cases g : j = t
    · subst g; omega
    · omega
  · rw [pk_un (by omega), pk_un (by omega), far _ (by omega)]; exact i7 q q1 q2
/-- one statement -/
theorem zm_stmt {post : SX → Prop} {ya yb yc : Nat → Int32} (hS : ∀ i, zn_S kd av bv cv xk ya yb yc xf xs xt i) (hw : zs_WF kd n) (hnd : zl_nd kd av n = true) (hn : n ≤ 48) (ht : t < n) (hI : zi_I kd av bv cv n yb hi t mem bk bT bc ent cs)
    (H : ∀ m k T c e s, zi_I kd av bv cv n yb hi (t + 1) m k T c e s → post (nI n, xB, nI (zc_ad kd (t + 1)), nI (zc_po kd (t + 1)), nI (zs_t kd (t + 1)).length, zc_pe kd (t + 1), xK, xA, xR, xQ, xk, xf, xs, xt, xv, xb, xc, xw, xi, xm, m, k, T, c, e, s, pv)) : wpX_compileStatement post (nI n, xB, nI (zc_ad kd t), nI (zc_po kd t), nI (zs_t kd t).length, zc_pe kd t, xK, xA, xR, xQ, xk, xf, xs, xt, xv, xb, xc, xw, xi, xm, mem, bk, bT, bc, ent, cs, pv) (nI t) := by
  have hK := zn_SK hS
  obtain ⟨⟨k11, ek⟩, s1, s2, s3, s4, s5, s6, s7, s8, s9⟩ := hS t
  have vi : vp_in (nI t) 48 := vp_in_nI (by omega) (by omega)
  have ci : (nI t).toNatClampNeg = t := zn_cl (by omega)
  refine ⟨vi, nm_r (zn_at hK (by omega)) (pk_lt 3 (kd t) (fun h3 => pk_eq (kd t) 4 (fun e => ⟨vi, vi, vi, ?_⟩) (fun h4 => pk_eq (kd t) 5 (fun e => ⟨vi, vi, vi, ?_⟩) (fun h5 => pk_eq (kd t) 6 (fun e => ⟨vi, ?_⟩) (fun h6 => pk_eq (kd t) 7 (fun e => ⟨vi, ?_⟩) (fun h7 => pk_eq (kd t) 8 (fun e => ?_) (fun h8 => pk_eq (kd t) 9 (fun e => ?_) (fun h9 => pk_eq (kd t) 10 (fun e => ⟨vi, ?_⟩) (fun h10 => ⟨vi, ?_⟩)))))))) (fun h3 => ?_))⟩
  · rw [ci, s8 (by omega), s1 (by omega), (s9 (by omega)).1, (s9 (by omega)).2]
    exact zi_get hn ht e hI H
  · rw [ci, s8 (by omega), s1 (by omega), (s9 (by omega)).1, (s9 (by omega)).2]
    exact zi_put hn ht e hI H
  · rw [ci, s8 (by omega), s1 (by omega)]
    exact zj_if hw hn ht e hI H
  · rw [ci, s8 (by omega), s1 (by omega)]
    exact zj_loop hw hn ht e hI H
  · exact zj_end hw hn ht e hI H
  · exact zj_call hn ht e hI H
  · exact zj_print hn ht e hI H (by rw [ci, s8 (by omega), s1 (by omega)])
  · rw [ci, s8 (by omega), s1 (by omega)]
    exact zm_body hn ht (by omega) (s3 (by omega)) hnd hI H
  · by_cases h0 : kd t = 0
    · exact zi_set hK hn ht h0 (s7 h0).1 (s7 h0).2 hI H
    · exact zi_arith hK hn ht (by omega) (by omega) (by rw [s8 h0]; exact s1 (by omega)) (s9 (by omega)).1 (s9 (by omega)).2 hI H
end ZM
end
section
section ZO
/-! the compiler as a whole -/
variable {xL xB xC xP xO xE xK xA xR xQ : Int32} {xk xf xs xt xv xb xc xm mem bk bT bc ent cs pv : Nat → Int32} {xw xi : Nat → Int64}
variable {kd av bv cv : Nat → Nat} {n : Nat} {b hi : Nat → Int32}
def zf_H (kd av bv cv : Nat → Nat) (n : Nat) (b hi : Nat → Int32) (i : Nat) (m : Nat → Int32) : Prop :=
  (∀ j, j < n → ∀ w, w < zc_sz kd j → ¬ zc_pln kd j w → m (zc_ad kd j + w) = nI (zc_h kd av bv cv n i j w)) ∧ zc_POOL kd av b n m ∧ zc_MZ kd n m ∧ m (zc_ad kd n) = 0 ∧ (∀ q, 800 ≤ q → q < 840 → m q = hi q)
/-- the finished program -/
def zf_M (kd av bv cv : Nat → Nat) (n : Nat) (b hi : Nat → Int32) (m : Nat → Int32) : Prop :=
  (∀ j, j < n → ∀ w, w < zc_sz kd j → ¬ zc_pln kd j w → m (zc_ad kd j + w) = nI (zc_w kd av bv cv n j w)) ∧ zc_POOL kd av b n m ∧ zc_MZ kd n m ∧ m (zc_ad kd n) = 0 ∧ (∀ q, 800 ≤ q → q < 840 → m q = hi q)
theorem zf_HM {m : Nat → Int32} (h : zf_H kd av bv cv n b hi n m) : zf_M kd av bv cv n b hi m := by
  obtain ⟨a, r⟩ := h
  refine ⟨fun j hj w hw hp => ?_, r⟩
  rw [a j hj w hw hp]
  refine zi_l ?_
  unfold zc_h
  rw [if_neg (by omega)]
theorem zo_169 {post : SX → Prop} (hk : zn_K kd xk) (hf : ∀ i, kd i = 9 → xf i = nI (av i) ∧ av i ≤ 3) (hab : zl_ab kd av n n = true) (hn : n ≤ 48) (he : ∀ j, j < n → kd j = 11 → ent (av j) = nI (zc_ad kd j + 1)) (hc : ∀ j, j < n → kd j = 9 → cs j = nI (zc_ad kd j + 1)) (H : ∀ m, zf_M kd av bv cv n b hi m → post (nI n, xB, xC, xP, xO, xE, xK, xA, xR, xQ, xk, xf, xs, xt, xv, xb, xc, xw, xi, xm, m, bk, bT, bc, ent, cs, pv)) : ∀ d i, i + d = n → ∀ m, zf_H kd av bv cv n b hi i m → ∀ f, d < f → wX_compile_169 post (nI n) xB xC xP xO xE xK xA xR xQ f (nI i) xk xf xs xt xv xb xc xw xi xm m bk bT bc ent cs pv := by
  intro d
  induction d with
  | zero =>
    intro i hi m hm f hff
    obtain ⟨f, rfl⟩ : ∃ g, f = g + 1 := ⟨f - 1, by omega⟩
    have e : i = n := by omega
    subst e
    exact br_t (nI_le (Nat.le_refl _) (by omega)) (H m (zf_HM hm))
  | succ d ih =>
    intro i hi m hm f hff
    obtain ⟨f, rfl⟩ : ∃ g, f = g + 1 := ⟨f - 1, by omega⟩
    obtain ⟨k11, _⟩ := hk i
    have ek := zn_at hk (i := i) (by omega)
    have vi : vp_in (nI i) 48 := vp_in_nI (by omega) (by omega)
    have ci : (nI i).toNatClampNeg = i := zn_cl (by omega)
    obtain ⟨m1, m2, m3, m4, m5⟩ := hm
    refine br_f (nI_ge (by omega) (by omega)) ⟨vi, pk_eq (kd i) 9 (fun h9 => ⟨vi, ?_⟩) (fun h9 => nm_r (nI_1 i) (ih (i + 1) (by omega) m ⟨fun j hj w hw hp => ?_, m2, m3, m4, m5⟩ f (by omega))) ek⟩
    · obtain ⟨ef, ha⟩ := hf i h9
      have hb : zs_b kd av n (av i) < n := zl_h_b.mp ((zl_ab_iff n).mp hab i (by omega) h9)
      obtain ⟨_, b2, _⟩ := zs_b_spec kd av n (av i)
      have e1 : ent (av i) = nI (zc_ad kd (zs_b kd av n (av i)) + 1) := by
        have := he _ hb (b2 hb).1
        rw [(b2 hb).2] at this
        exact this
      have c1 := hc i (by omega) h9
      have s9 := zc_sz9 h9
      obtain ⟨L1, L2⟩ := zc_lim (kd := kd) (j := i) (w := 1) hn (by omega) (by omega)
      have vt : vp_in (nI (zc_ad kd i + 1)) 1024 := vp_in_nI (by omega) (by omega)
      have ct : (nI (zc_ad kd i + 1)).toNatClampNeg = zc_ad kd i + 1 := zn_cl (by omega)
      have old : m (zc_ad kd i + 1) = nI (1024 * 7 + 0) := by
        rw [m1 i (by omega) 1 (by omega) (by intro h; rcases h with h | h | h <;> omega)]
        refine zi_l ?_
        unfold zc_h
        rw [if_pos ⟨h9, rfl, Nat.le_refl _⟩]
      rw [ci, ef, c1, zn_cl (i := av i) (by omega), ct, e1, old, nI_add]
      refine ⟨vt, vi, vp_in_nI (by omega) (by omega), vt, nm_e (nm_r (nI_1 i) (ih (i + 1) (by omega) _ ⟨fun j hj w hw hp => ?_, fun j hj hp => ?_, fun j hj h => ?_, ?_, fun q q1 q2 => ?_⟩ f (by omega)))⟩
      · by_cases g : j = i ∧ w = 1
        · obtain ⟨rfl, rfl⟩ := g
          rw [pk_us]
          refine zi_l ?_
          unfold zc_h
          rw [if_neg (by omega)]
          simp [zc_w, h9]
        · rw [pk_un (fun ee => g (zc_inj hw (by omega) ee)), m1 j hj w hw hp]
          refine zi_l ?_
          unfold zc_h
          by_cases c : kd j = 9 ∧ w = 1 ∧ i ≤ j
          · rw [if_pos c, if_pos ⟨c.1, c.2.1, by
              by_cases ji : j = i
              · exact absurd ⟨ji, c.2.1⟩ g
              · omega⟩]
          · rw [if_neg c, if_neg (fun h => c ⟨h.1, h.2.1, by omega⟩)]
      · have := zc_po_ge (kd := kd) j
        rw [pk_un (by omega)]
        exact m2 j hj hp
      · have S := zc_sz11 h
        rw [pk_un]
        · exact m3 j hj h
        · intro ee
          have := zc_inj (kd := kd) (j := j) (j' := i) (w := 0) (w' := 1) (by omega) (by omega) (by omega)
          omega
      · rw [pk_un (by omega)]; exact m4
      · rw [pk_un (by omega)]; exact m5 q q1 q2
    · rw [m1 j hj w hw hp]
      refine zi_l ?_
      unfold zc_h
      by_cases c : kd j = 9 ∧ w = 1 ∧ i ≤ j
      · rw [if_pos c, if_pos ⟨c.1, c.2.1, by
          by_cases ji : j = i
          · subst ji; exact absurd c.1 h9
          · omega⟩]
      · rw [if_neg c, if_neg (fun h => c ⟨h.1, h.2.1, by omega⟩)]
theorem zo_144 {post : SX → Prop} {ya yb yc : Nat → Int32} (hS : ∀ i, zn_S kd av bv cv xk ya yb yc xf xs xt i) (hw : zs_WF kd n) (hnd : zl_nd kd av n = true) (hab : zl_ab kd av n n = true) (hn : n ≤ 48)
    (H : ∀ C P O E m k T c e s, zf_M kd av bv cv n yb hi m → post (nI n, xB, C, P, O, E, xK, xA, xR, xQ, xk, xf, xs, xt, xv, xb, xc, xw, xi, xm, m, k, T, c, e, s, pv)) : ∀ d t, t + d = n → ∀ m k T c e s, zi_I kd av bv cv n yb hi t m k T c e s → ∀ f, d < f → wX_compile_144 post f (nI t) (nI n) xB (nI (zc_ad kd t)) (nI (zc_po kd t)) (nI (zs_t kd t).length) (zc_pe kd t) xK xA xR xQ xk xf xs xt xv xb xc xw xi xm m k T c e s pv := by
  intro d
  induction d with
  | zero =>
    intro t ht m k T c e s hI f hff
    obtain ⟨f, rfl⟩ : ∃ g, f = g + 1 := ⟨f - 1, by omega⟩
    have e' : t = n := by omega
    subst e'
    refine br_t (nI_le (Nat.le_refl _) (by omega)) (zm_fin hn (Nat.le_refl _) (fun h => absurd h (by omega)) hI (fun m' hm => ⟨t + 1, zo_169 (zn_SK hS) (fun i h9 => ?_) hab hn hI.2.2.2.2.1 hI.2.2.2.2.2.1 (fun m'' h'' => H _ _ _ _ _ _ _ _ _ _ h'') t 0 (by omega) _ ?_ (t + 1) (by omega)⟩))
    · obtain ⟨⟨k11, ek⟩, s1, s2, s3, s4, s5, s6, s7, s8, s9⟩ := hS i
      exact ⟨by rw [s8 (by omega)]; exact s1 (by omega), s3 (by omega)⟩
    · obtain ⟨i1, i2, i3, i4, i5, i6, i7⟩ := hI
      obtain ⟨m1, m2⟩ := hm
      have la := zc_ad_le (kd := kd) t
      have far : ∀ q, 288 ≤ q → m' q = m q := fun q hq => m2 q (fun j hj h => by
        have := zc_ad_lt (kd := kd) hj
        have := zc_sz11 h
        omega)
      refine ⟨fun j hj w hw' hp => ?_, fun j hj hp => ?_, fun j hj h => ?_, ?_, fun q q1 q2 => ?_⟩
      · have L := zc_ad_lt (kd := kd) hj
        rw [pk_un (by omega), m1 j hj w hw' hp]
        refine zi_l ?_
        unfold zm_g zc_h
        by_cases g : kd j = 11 ∧ w = 1
        · rw [if_pos g, if_neg (by omega)]
          simp [zc_w, g.1]
        · rw [if_neg g]
          unfold zc_g
          by_cases g6 : kd j = 6 ∧ w = 1
          · rw [if_pos g6, if_neg (by rw [hw.2.2.2]; exact List.not_mem_nil), if_neg (by omega)]
            simp [zc_w, g6.1, g6.2]
          · rw [if_neg g6]
            by_cases g9 : kd j = 9 ∧ w = 1
            · rw [if_pos g9, if_pos ⟨g9.1, g9.2, Nat.zero_le _⟩]
            · rw [if_neg g9, if_neg g, if_neg (fun h => g9 ⟨h.1, h.2.1⟩)]
      · have := zc_po_ge (kd := kd) j
        rw [pk_un (by omega), far _ (by omega)]
        exact i2 j hj hp
      · have S := zc_sz11 h
        have L := zc_ad_lt (kd := kd) hj
        rw [pk_un (by omega), m2 _ (fun i hi h2 ee => ?_)]
        · exact i3 j hj h
        · have := zc_inj (kd := kd) (j := j) (j' := i) (w := 0) (w' := 1) (by omega) (by rw [zc_sz11 h2]; omega) (by omega)
          omega
      · rw [pk_us]; rfl
      · rw [pk_un (by omega), far _ (by omega)]; exact i7 q q1 q2
  | succ d ih =>
    intro t ht m k T c e s hI f hff
    obtain ⟨f, rfl⟩ : ∃ g, f = g + 1 := ⟨f - 1, by omega⟩
    exact br_f (nI_ge (by omega) (by omega)) (zm_stmt hS hw hnd hn (by omega) hI (fun m' k' T' c' e' s' hI' => nm_r (nI_1 t) (ih (t + 1) (by omega) m' k' T' c' e' s' hI' f (by omega))))
/-- the variables, the arrays, the constants -/
def zf_hi (xv hi : Nat → Int32) : Prop := (∀ v, v < 8 → hi (800 + v) = xv v) ∧ (∀ q, q < 24 → hi (808 + q) = 0) ∧ hi 832 = 7 ∧ hi 833 = 1 ∧ (∀ s, s < 3 → hi (834 + s) = nI (1832 + 8 * s) ∧ hi (837 + s) = nI (2856 + 8 * s))
theorem zo_73 {post : SX → Prop} (H : ∀ m, zf_hi xv m → ∃ f, wX_compile_144 post f 0 xL xB 0 840 0 (-1) xK xA xR xQ xk xf xs xt xv xb xc xw xi xm m bk bT bc ent cs pv) : ∀ d i, i + d = 3 → ∀ m, (∀ v, v < 8 → m (800 + v) = xv v) → (∀ q, q < 24 → m (808 + q) = 0) → m 832 = 7 → m 833 = 1 → (∀ s, s < i → m (834 + s) = nI (1832 + 8 * s) ∧ m (837 + s) = nI (2856 + 8 * s)) → ∀ f, d < f → wX_compile_73 post xL xB xC xP xO xE xK xA xR xQ f (nI i) xk xf xs xt xv xb xc xw xi xm m bk bT bc ent cs pv := by
  intro d
  induction d with
  | zero =>
    intro i hi m a1 a2 a3 a4 a5 f hff
    obtain ⟨f, rfl⟩ : ∃ g, f = g + 1 := ⟨f - 1, by omega⟩
    have e : i = 3 := by omega
    subst e
    exact br_t (nI_le (Nat.le_refl _) (by omega)) (H m ⟨a1, a2, a3, a4, a5⟩)
  | succ d ih =>
    intro i hi m a1 a2 a3 a4 a5 f hff
    obtain ⟨f, rfl⟩ : ∃ g, f = g + 1 := ⟨f - 1, by omega⟩
    have e4 : (834 : Int32) + nI i = nI (834 + i) := nI_add 834 i
    have e7 : (837 : Int32) + nI i = nI (837 + i) := nI_add 837 i
    have w4 : (1832 : Int32) + 8 * nI i = nI (1832 + 8 * i) := by
      rw [← nI_add, ← pk_mul]; rfl
    have w7 : (2856 : Int32) + 8 * nI i = nI (2856 + 8 * i) := by
      rw [← nI_add, ← pk_mul]; rfl
    have c4 : (nI (834 + i)).toNatClampNeg = 834 + i := zn_cl (by omega)
    have c7 : (nI (837 + i)).toNatClampNeg = 837 + i := zn_cl (by omega)
    refine br_f (nI_ge (b := 3) (by omega) (by omega)) ?_
    rw [e4, e7, w4, w7, c4, c7]
    refine ⟨vp_in_nI (by omega) (by omega), nm_e ⟨vp_in_nI (by omega) (by omega), nm_e (nm_r (nI_1 i) (ih (i + 1) (by omega) _ (fun v hv => ?_) (fun q hq => ?_) ?_ ?_ (fun s hs => ?_) f (by omega)))⟩⟩
    · rw [pk_un (by omega), pk_un (by omega)]; exact a1 v hv
    · rw [pk_un (by omega), pk_un (by omega)]; exact a2 q hq
    · rw [pk_un (by omega), pk_un (by omega)]; exact a3
    · rw [pk_un (by omega), pk_un (by omega)]; exact a4
    · by_cases e : s = i
      · subst e
        exact ⟨by rw [pk_un (by omega), pk_us], by rw [pk_us]⟩
      · obtain ⟨x, y⟩ := a5 s (by omega)
        exact ⟨by rw [pk_un (by omega), pk_un (by omega)]; exact x, by rw [pk_un (by omega), pk_un (by omega)]; exact y⟩
theorem zo_24 {post : SX → Prop} (H : ∀ m, zf_hi xv m → ∃ f, wX_compile_144 post f 0 xL xB 0 840 0 (-1) xK xA xR xQ xk xf xs xt xv xb xc xw xi xm m bk bT bc ent cs pv) : ∀ d i, i + d = 8 → ∀ m, (∀ v, v < i → m (800 + v) = xv v) → (∀ q, q < 24 → m (808 + q) = 0) → ∀ f, d < f → wX_compile_24 post xL xB xC xP xO xE xK xA xR xQ f (nI i) xk xf xs xt xv xb xc xw xi xm m bk bT bc ent cs pv := by
  intro d
  induction d with
  | zero =>
    intro i hi m a1 a2 f hff
    obtain ⟨f, rfl⟩ : ∃ g, f = g + 1 := ⟨f - 1, by omega⟩
    have e : i = 8 := by omega
    subst e
    refine br_t (nI_le (Nat.le_refl _) (by omega)) (nm_e (nm_e ⟨4, zo_73 H 3 0 (by omega) _ (fun v hv => ?_) (fun q hq => ?_) ?_ ?_ (fun s hs => absurd hs (by omega)) 4 (by omega)⟩))
    · rw [pk_un (by omega), pk_un (by omega)]; exact a1 v hv
    · rw [pk_un (by omega), pk_un (by omega)]; exact a2 q hq
    · rw [pk_un (by omega), pk_us]
    · rw [pk_us]
  | succ d ih =>
    intro i hi m a1 a2 f hff
    obtain ⟨f, rfl⟩ : ∃ g, f = g + 1 := ⟨f - 1, by omega⟩
    have e8 : (800 : Int32) + nI i = nI (800 + i) := nI_add 800 i
    have c8 : (nI (800 + i)).toNatClampNeg = 800 + i := zn_cl (by omega)
    refine br_f (nI_ge (b := 8) (by omega) (by omega)) ⟨vp_in_nI (by omega) (by omega), ?_⟩
    rw [e8, c8, zn_cl (i := i) (by omega)]
    refine ⟨vp_in_nI (by omega) (by omega), nm_e (nm_r (nI_1 i) (ih (i + 1) (by omega) _ (fun v hv => ?_) (fun q hq => ?_) f (by omega)))⟩
    · by_cases e : v = i
      · subst e; rw [pk_us]
      · rw [pk_un (by omega)]; exact a1 v (by omega)
    · rw [pk_un (by omega)]; exact a2 q hq
theorem zo_2 {post : SX → Prop} (H : ∀ m, zf_hi xv m → ∃ f, wX_compile_144 post f 0 xL xB 0 840 0 (-1) xK xA xR xQ xk xf xs xt xv xb xc xw xi xm m bk bT bc ent cs pv) : ∀ d i, i + d = 1024 → ∀ m, (∀ q, q < i → m q = 0) → ∀ f, d < f → wX_compile_2 post xL xB xC xP xO xE xK xA xR xQ f (nI i) xk xf xs xt xv xb xc xw xi xm m bk bT bc ent cs pv := by
  intro d
  induction d with
  | zero =>
    intro i hi m a1 f hff
    obtain ⟨f, rfl⟩ : ∃ g, f = g + 1 := ⟨f - 1, by omega⟩
    have e : i = 1024 := by omega
    subst e
    exact br_t (nI_le (Nat.le_refl _) (by omega)) ⟨9, zo_24 H 8 0 (by omega) m (fun v hv => absurd hv (by omega)) (fun q hq => a1 _ (by omega)) 9 (by omega)⟩
  | succ d ih =>
    intro i hi m a1 f hff
    obtain ⟨f, rfl⟩ : ∃ g, f = g + 1 := ⟨f - 1, by omega⟩
    refine br_f (nI_ge (b := 1024) (by omega) (by omega)) ⟨vp_in_nI (by omega) (by omega), nm_r (e' := upd m i 0) (by rw [zn_cl (by omega)]) (nm_r (nI_1 i) (ih (i + 1) (by omega) _ (fun q hq => ?_) f (by omega)))⟩
    by_cases e : q = i
    · subst e; exact pk_us
    · rw [pk_un e]; exact a1 q (by omega)
theorem zo_compile {post : SX → Prop} {ya yb yc : Nat → Int32} (hS : ∀ i, zn_S kd av bv cv xk ya yb yc xf xs xt i) (hw : zs_WF kd n) (hnd : zl_nd kd av n = true) (hab : zl_ab kd av n n = true) (hn : n ≤ 48)
    (H : ∀ C P O E hi m k T c e s, zf_hi xv hi → zf_M kd av bv cv n yb hi m → post (nI n, xB, C, P, O, E, xK, xA, xR, xQ, xk, xf, xs, xt, xv, xb, xc, xw, xi, xm, m, k, T, c, e, s, pv)) : wpX_compile post (nI n, xB, xC, xP, xO, xE, xK, xA, xR, xQ, xk, xf, xs, xt, xv, xb, xc, xw, xi, xm, mem, bk, bT, bc, ent, cs, pv) :=
  ⟨1025, zo_2 (fun m hm => ⟨n + 1, zo_144 (hi := m) hS hw hnd hab hn (fun C P O E m' k T c e s h => H C P O E m m' k T c e s hm h) n 0 (by omega) m bk bT bc ent cs ⟨fun j hj => absurd hj (by omega), fun j hj => absurd hj (by omega), fun j hj => absurd hj (by omega), trivial, fun j hj => absurd hj (by omega), fun j hj => absurd hj (by omega), fun q _ _ => rfl⟩ (n + 1) (by omega)⟩) 1024 0 (by omega) mem (fun q hq => absurd hq (by omega)) 1025 (by omega)⟩
end ZO
end
section
section ZP
/-! the reference: one statement passed -/
variable {yN yP : Int32} {yk ya yb yc yv yV yC yO yL yR yr : Nat → Int32} {yw ym : Nat → Int64}
variable {kd av bv cv : Nat → Nat} {n : Nat}
theorem zp_37 {post : Int32 → Prop} {J : Int32 → Int32 → Prop} {c k : Nat} (hc : c ≤ 100) (h0 : c = 0 → post (nI k)) (h1 : c ≠ 0 → J (nI c) (nI (k + 1))) : wY_endOf_37 post J (nI c) (nI k) yN yP yk ya yb yc yv yV yC yO yL yR yr yw ym :=
  pk_eq c 0 h0 (fun h => nm_r (nI_1 k) (h1 h))
theorem zp_end4 {post : Int32 → Prop} {i e : Nat} (hk : zn_K kd yk) (hn : n ≤ 48) (hw : zs_WF kd n) (h67 : kd i = 6 ∨ kd i = 7) (he : e < n) (h8 : kd e = 8) (es : zs_t kd e = i :: zs_t kd i) (H : post (nI e)) : ∀ d k, k + d = e → i ≤ k → ∀ f, d < f → wY_endOf_4 post (nI n) yP yk ya yb yc yv yV yC yO yL yR yr yw ym f (nI ((zs_t kd k).length - (zs_t kd i).length)) (nI k) := by
  obtain ⟨c1, _, c3, _, c5⟩ := zs_close h8 es
  have up : ∀ k, i < k → k ≤ e → (zs_t kd i).length + 1 ≤ (zs_t kd k).length := by
    intro k k1 k2
    obtain ⟨l, hl⟩ := c5 k k1 k2
    rw [hl, List.length_append, List.length_cons]
    omega
  intro d
  induction d with
  | zero =>
    intro k hke hik f hff
    obtain ⟨f, rfl⟩ : ∃ g, f = g + 1 := ⟨f - 1, by omega⟩
    have e' : k = e := by omega
    subst e'
    have ek := zn_at hk (i := k) (by omega)
    obtain ⟨k11, _⟩ := hk k
    have L : (zs_t kd k).length = (zs_t kd i).length + 1 := by rw [es]; rfl
    refine br_f (nI_ge (by omega) (by omega)) (zy_opens hk (by omega) (fun h => absurd h (by omega)) (fun _ => br_t rfl ⟨vp_in_nI (by omega) (by omega), pk_eq (kd k) 8 (fun _ => ?_) (fun h => absurd h8 h) ek⟩))
    rw [L, Nat.add_sub_cancel_left]
    exact nm_r (pk_m1 0) (zp_37 (by omega) (fun _ => H) (fun h => absurd rfl h))
  | succ d ih =>
    intro k hke hik f hff
    obtain ⟨f, rfl⟩ : ∃ g, f = g + 1 := ⟨f - 1, by omega⟩
    have ek := zn_at hk (i := k) (by omega)
    obtain ⟨k11, _⟩ := hk k
    have D3 := hw.2.2.1 k (by omega)
    have U := up (k + 1) (by omega) (by omega)
    have U0 : (zs_t kd i).length ≤ (zs_t kd k).length := by
      by_cases e' : k = i
      · subst e'; omega
      · have := up k (by omega) (by omega); omega
    have nx := ih (k + 1) (by omega) (by omega) f (by omega)
    have vi : vp_in (nI k) 48 := vp_in_nI (by omega) (by omega)
    refine br_f (nI_ge (by omega) (by omega)) (zy_opens hk (by omega) (fun h => br_f (by decide) ?_) (fun h => br_t rfl ⟨vi, pk_eq (kd k) 8 (fun h8' => ?_) (fun h8' => ?_) ek⟩))
    · have L : (zs_t kd (k + 1)).length = (zs_t kd k).length + 1 := by rw [zs_t_op h]; rfl
      rw [L, show (zs_t kd k).length + 1 - (zs_t kd i).length = (zs_t kd k).length - (zs_t kd i).length + 1 by omega] at nx
      exact nm_r (nI_1 _) ⟨vi, pk_eq (kd k) 8 (fun h8' => absurd h8' (by omega)) (fun _ => zp_37 (by omega) (fun h => absurd h (by omega)) (fun _ => nx)) ek⟩
    · have L : (zs_t kd (k + 1)).length = (zs_t kd k).length - 1 := by rw [zs_t_end h8', List.length_tail]
      obtain ⟨c, hc⟩ : ∃ c, (zs_t kd k).length - (zs_t kd i).length = c + 1 := ⟨(zs_t kd k).length - (zs_t kd i).length - 1, by omega⟩
      rw [L, show (zs_t kd k).length - 1 - (zs_t kd i).length = c by omega] at nx
      rw [hc]
      exact nm_r (pk_m1 c) (zp_37 (by omega) (fun h => absurd h (by omega)) (fun _ => nx))
    · have L : zs_t kd (k + 1) = zs_t kd k := zs_t_oth (by omega) (by omega) h8'
      rw [L] at nx U
      exact zp_37 (by omega) (fun h => absurd h (by omega)) (fun _ => nx)
theorem zp_end {post : Int32 → Prop} {i : Nat} (hk : zn_K kd yk) (hn : n ≤ 48) (hw : zs_WF kd n) (hi : i < n) (h67 : kd i = 6 ∨ kd i = 7) (H : post (nI (zs_en kd n i))) : wpY_endOf post (nI n, yP, yk, ya, yb, yc, yv, yV, yC, yO, yL, yR, yr, yw, ym) (nI i) := by
  obtain ⟨e1, e2, e3, e4, _⟩ := zs_en_has hw hi h67
  have := zp_end4 (yP := yP) (ya := ya) (yb := yb) (yc := yc) (yv := yv) (yV := yV) (yC := yC) (yO := yO) (yL := yL) (yR := yR) (yr := yr) (yw := yw) (ym := ym) hk hn hw h67 e2 e3 e4 H (zs_en kd n i - i) i (by omega) (Nat.le_refl _) (n + 1) (by omega)
  rw [Nat.sub_self] at this
  exact ⟨n + 1, this⟩
theorem zp_33 {post : Int32 → Prop} {J : Int32 → Int32 → Prop} {c k : Nat} (hc : c ≤ 100) (h0 : c = 0 → post (nI k)) (h1 : c ≠ 0 → J (nI c) (nI k + (-1))) : wY_openerOf_33 post J (nI c) (nI k) yN yP yk ya yb yc yv yV yC yO yL yR yr yw ym :=
  pk_eq c 0 h0 (fun h => nm_e (h1 h))
theorem zp_op4 {post : Int32 → Prop} {o e : Nat} {os : List Nat} (hk : zn_K kd yk) (hn : n ≤ 48) (hw : zs_WF kd n) (he : e < n) (h8 : kd e = 8) (es : zs_t kd e = o :: os) (H : post (nI o)) : ∀ d k, o + d = k → k ≤ e → ∀ f, d < f → wY_openerOf_4 post yN yP yk ya yb yc yv yV yC yO yL yR yr yw ym f (nI ((zs_t kd (k + 1)).length - os.length)) (nI k) := by
  obtain ⟨c1, c2, c3, c4, c5⟩ := zs_close h8 es
  have up : ∀ k, o < k → k ≤ e → os.length + 1 ≤ (zs_t kd k).length := by
    intro k k1 k2
    obtain ⟨l, hl⟩ := c5 k k1 k2
    rw [hl, List.length_append, List.length_cons]
    omega
  intro d
  induction d with
  | zero =>
    intro k hke hik f hff
    obtain ⟨f, rfl⟩ : ∃ g, f = g + 1 := ⟨f - 1, by omega⟩
    have e' : k = o := by omega
    subst e'
    have ek := zn_at hk (i := k) (by omega)
    obtain ⟨k11, _⟩ := hk k
    have L : (zs_t kd (k + 1)).length - os.length = 0 + 1 := by rw [zs_t_op c4, c2, List.length_cons]; omega
    refine br_f (nI_pos (by omega)) ⟨vp_in_nI (by omega) (by omega), pk_eq (kd k) 8 (fun h => absurd h (by omega)) (fun _ => zy_opens hk (by omega) (fun _ => br_f (by decide) ?_) (fun h => absurd c4 h)) ek⟩
    rw [L]
    exact nm_r (pk_m1 0) (zp_33 (by omega) (fun _ => H) (fun h => absurd rfl h))
  | succ d ih =>
    intro k hke hik f hff
    obtain ⟨f, rfl⟩ : ∃ g, f = g + 1 := ⟨f - 1, by omega⟩
    obtain ⟨q, rfl⟩ : ∃ q, k = q + 1 := ⟨k - 1, by omega⟩
    have ek := zn_at hk (i := q + 1) (by omega)
    obtain ⟨k11, _⟩ := hk (q + 1)
    have D3 := hw.2.2.1 (q + 1) (by omega)
    have U := up (q + 1) (by omega) (by omega)
    have nx := ih q (by omega) (by omega) f (by omega)
    have vi : vp_in (nI (q + 1)) 48 := vp_in_nI (by omega) (by omega)
    have U2 : os.length ≤ (zs_t kd (q + 1 + 1)).length := by
      by_cases g : q + 1 = e
      · rw [g, c1]; exact Nat.le_refl _
      · have := up (q + 1 + 1) (by omega) (by omega); omega
    refine br_f (nI_pos (by omega)) ⟨vi, pk_eq (kd (q + 1)) 8 (fun h8' => ?_) (fun h8' => zy_opens hk (by omega) (fun h67 => br_f (by decide) ?_) (fun h67 => br_t rfl ?_)) ek⟩
    · have L : (zs_t kd (q + 1 + 1)).length = (zs_t kd (q + 1)).length - 1 := by rw [zs_t_end h8', List.length_tail]
      have c : (zs_t kd (q + 1 + 1)).length - os.length + 1 = (zs_t kd (q + 1)).length - os.length := by omega
      refine nm_r (nI_1 _) (zy_opens hk (by omega) (fun h => absurd h (by omega)) (fun _ => br_t rfl ?_))
      rw [c]
      exact zp_33 (by omega) (fun h => absurd h (by omega)) (fun _ => by rw [pk_m1]; exact nx)
    · have L : (zs_t kd (q + 1 + 1)).length - os.length = (zs_t kd (q + 1)).length - os.length + 1 := by rw [zs_t_op h67, List.length_cons]; omega
      rw [L]
      exact nm_r (pk_m1 _) (zp_33 (by omega) (fun h => absurd h (by omega)) (fun _ => by rw [pk_m1]; exact nx))
    · have L : zs_t kd (q + 1 + 1) = zs_t kd (q + 1) := zs_t_oth (by omega) (by omega) h8'
      rw [L]
      exact zp_33 (by omega) (fun h => absurd h (by omega)) (fun _ => by rw [pk_m1]; exact nx)
theorem zp_op {post : Int32 → Prop} {o e : Nat} {os : List Nat} (hk : zn_K kd yk) (hn : n ≤ 48) (hw : zs_WF kd n) (he : e < n) (h8 : kd e = 8) (es : zs_t kd e = o :: os) (H : post (nI o)) : wpY_openerOf post (yN, yP, yk, ya, yb, yc, yv, yV, yC, yO, yL, yR, yr, yw, ym) (nI e) := by
  obtain ⟨c1, c2, c3, c4, c5⟩ := zs_close h8 es
  have := zp_op4 (yN := yN) (yP := yP) (ya := ya) (yb := yb) (yc := yc) (yv := yv) (yV := yV) (yC := yC) (yO := yO) (yL := yL) (yR := yR) (yr := yr) (yw := yw) (ym := ym) hk hn hw he h8 es H (e - o) e (by omega) (Nat.le_refl _) (e - o + 1) (by omega)
  rw [c1, Nat.sub_self] at this
  exact ⟨e - o + 1, this⟩
/-! plain statements -/
theorem zp_k10 {post : SY → Prop} {i : Nat} (hk : zn_K kd yk) (hi : i < 48) (h : kd i ≠ 10) (H : post (yN, yP, yk, ya, yb, yc, yv, yV, yC, yO, yL, yR, yr, yw, ym)) : wY_plain_258 post (nI i) yN yP yk ya yb yc yv yV yC yO yL yR yr yw ym := by
  have ek := zn_at hk (i := i) (by omega)
  obtain ⟨k11, _⟩ := hk i
  exact ⟨vp_in_nI hi (by omega), pk_eq (kd i) 10 (fun e => absurd e h) (fun _ => H) ek⟩
theorem zp_k5 {post : SY → Prop} {i : Nat} (hk : zn_K kd yk) (hi : i < 48) (h : kd i ≠ 5) (H : wY_plain_258 post (nI i) yN yP yk ya yb yc yv yV yC yO yL yR yr yw ym) : wY_plain_208 post (nI i) yN yP yk ya yb yc yv yV yC yO yL yR yr yw ym := by
  have ek := zn_at hk (i := i) (by omega)
  obtain ⟨k11, _⟩ := hk i
  exact ⟨vp_in_nI hi (by omega), pk_eq (kd i) 5 (fun e => absurd e h) (fun _ => H) ek⟩
theorem zp_k4 {post : SY → Prop} {i : Nat} (hk : zn_K kd yk) (hi : i < 48) (h : kd i ≠ 4) (H : wY_plain_208 post (nI i) yN yP yk ya yb yc yv yV yC yO yL yR yr yw ym) : wY_plain_158 post (nI i) yN yP yk ya yb yc yv yV yC yO yL yR yr yw ym := by
  have ek := zn_at hk (i := i) (by omega)
  obtain ⟨k11, _⟩ := hk i
  exact ⟨vp_in_nI hi (by omega), pk_eq (kd i) 4 (fun e => absurd e h) (fun _ => H) ek⟩
theorem zp_k3 {post : SY → Prop} {i : Nat} (hk : zn_K kd yk) (hi : i < 48) (h : kd i ≠ 3) (H : wY_plain_158 post (nI i) yN yP yk ya yb yc yv yV yC yO yL yR yr yw ym) : wY_plain_114 post (nI i) yN yP yk ya yb yc yv yV yC yO yL yR yr yw ym := by
  have ek := zn_at hk (i := i) (by omega)
  obtain ⟨k11, _⟩ := hk i
  exact ⟨vp_in_nI hi (by omega), pk_eq (kd i) 3 (fun e => absurd e h) (fun _ => H) ek⟩
theorem zp_k2 {post : SY → Prop} {i : Nat} (hk : zn_K kd yk) (hi : i < 48) (h : kd i ≠ 2) (H : wY_plain_114 post (nI i) yN yP yk ya yb yc yv yV yC yO yL yR yr yw ym) : wY_plain_70 post (nI i) yN yP yk ya yb yc yv yV yC yO yL yR yr yw ym := by
  have ek := zn_at hk (i := i) (by omega)
  obtain ⟨k11, _⟩ := hk i
  exact ⟨vp_in_nI hi (by omega), pk_eq (kd i) 2 (fun e => absurd e h) (fun _ => H) ek⟩
theorem zp_k1 {post : SY → Prop} {i : Nat} (hk : zn_K kd yk) (hi : i < 48) (h : kd i ≠ 1) (H : wY_plain_70 post (nI i) yN yP yk ya yb yc yv yV yC yO yL yR yr yw ym) : wY_plain_26 post (nI i) yN yP yk ya yb yc yv yV yC yO yL yR yr yw ym := by
  have ek := zn_at hk (i := i) (by omega)
  obtain ⟨k11, _⟩ := hk i
  exact ⟨vp_in_nI hi (by omega), pk_eq (kd i) 1 (fun e => absurd e h) (fun _ => H) ek⟩
theorem zp_k0 {post : SY → Prop} {i : Nat} (hk : zn_K kd yk) (hi : i < 48) (h : kd i ≠ 0) (H : wY_plain_26 post (nI i) yN yP yk ya yb yc yv yV yC yO yL yR yr yw ym) : wpY_plain post (yN, yP, yk, ya, yb, yc, yv, yV, yC, yO, yL, yR, yr, yw, ym) (nI i) := by
  have ek := zn_at hk (i := i) (by omega)
  obtain ⟨k11, _⟩ := hk i
  exact ⟨vp_in_nI hi (by omega), pk_eq (kd i) 0 (fun e => absurd e h) (fun _ => H) ek⟩
theorem zp_none {post : SY → Prop} {i : Nat} (hk : zn_K kd yk) (hi : i < 48) (h6 : 6 ≤ kd i) (h : kd i ≠ 10) (H : post (yN, yP, yk, ya, yb, yc, yv, yV, yC, yO, yL, yR, yr, yw, ym)) : wpY_plain post (yN, yP, yk, ya, yb, yc, yv, yV, yC, yO, yL, yR, yr, yw, ym) (nI i) :=
  zp_k0 hk hi (by omega) (zp_k1 hk hi (by omega) (zp_k2 hk hi (by omega) (zp_k3 hk hi (by omega) (zp_k4 hk hi (by omega) (zp_k5 hk hi (by omega) (zp_k10 hk hi h H))))))
theorem zp_set {post : SY → Prop} {i : Nat} (hk : zn_K kd yk) (hi : i < 48) (h : kd i = 0) (ea : ya i = nI (av i)) (ha : av i ≤ 7) (H : post (yN, yP, yk, ya, yb, yc, yv, upd yV (av i) (yb i), yC, yO, yL, yR, yr, yw, ym)) : wpY_plain post (yN, yP, yk, ya, yb, yc, yv, yV, yC, yO, yL, yR, yr, yw, ym) (nI i) := by
  have ek := zn_at hk (i := i) (by omega)
  obtain ⟨k11, _⟩ := hk i
  have vi : vp_in (nI i) 48 := vp_in_nI hi (by omega)
  have ci : (nI i).toNatClampNeg = i := zn_cl (by omega)
  have va : vp_in (nI (av i)) 8 := vp_in_nI (by omega) (by omega)
  refine ⟨vi, pk_eq (kd i) 0 (fun _ => ⟨vi, vi, ?_⟩) (fun e => absurd h e) ek⟩
  rw [ci, ea, zn_cl (i := av i) (by omega)]
  exact ⟨va, nm_e (zp_k1 hk hi (by omega) (zp_k2 hk hi (by omega) (zp_k3 hk hi (by omega) (zp_k4 hk hi (by omega) (zp_k5 hk hi (by omega) (zp_k10 hk hi (by omega) H))))))⟩
theorem zp_add {post : SY → Prop} {i : Nat} (hk : zn_K kd yk) (hi : i < 48) (h : kd i = 1) (ea : ya i = nI (av i)) (ha : av i ≤ 7) (eb : yb i = nI (bv i)) (hb : bv i ≤ 7) (ec : yc i = nI (cv i)) (hc : cv i ≤ 7) (H : post (yN, yP, yk, ya, yb, yc, yv, upd yV (av i) (yV (bv i) + yV (cv i)), yC, yO, yL, yR, yr, yw, ym)) : wpY_plain post (yN, yP, yk, ya, yb, yc, yv, yV, yC, yO, yL, yR, yr, yw, ym) (nI i) := by
  have ek := zn_at hk (i := i) (by omega)
  obtain ⟨k11, _⟩ := hk i
  have vi : vp_in (nI i) 48 := vp_in_nI hi (by omega)
  have ci : (nI i).toNatClampNeg = i := zn_cl (by omega)
  refine zp_k0 hk hi (by omega) ⟨vi, pk_eq (kd i) 1 (fun _ => ⟨vi, vi, ?_⟩) (fun e => absurd h e) ek⟩
  rw [ci, ea, eb, ec, zn_cl (i := av i) (by omega), zn_cl (i := bv i) (by omega), zn_cl (i := cv i) (by omega)]
  exact ⟨vp_in_nI (by omega) (by omega), vi, vp_in_nI (by omega) (by omega), vp_in_nI (by omega) (by omega), nm_e (zp_k2 hk hi (by omega) (zp_k3 hk hi (by omega) (zp_k4 hk hi (by omega) (zp_k5 hk hi (by omega) (zp_k10 hk hi (by omega) H)))))⟩
theorem zp_sub {post : SY → Prop} {i : Nat} (hk : zn_K kd yk) (hi : i < 48) (h : kd i = 2) (ea : ya i = nI (av i)) (ha : av i ≤ 7) (eb : yb i = nI (bv i)) (hb : bv i ≤ 7) (ec : yc i = nI (cv i)) (hc : cv i ≤ 7) (H : post (yN, yP, yk, ya, yb, yc, yv, upd yV (av i) (yV (bv i) - yV (cv i)), yC, yO, yL, yR, yr, yw, ym)) : wpY_plain post (yN, yP, yk, ya, yb, yc, yv, yV, yC, yO, yL, yR, yr, yw, ym) (nI i) := by
  have ek := zn_at hk (i := i) (by omega)
  obtain ⟨k11, _⟩ := hk i
  have vi : vp_in (nI i) 48 := vp_in_nI hi (by omega)
  have ci : (nI i).toNatClampNeg = i := zn_cl (by omega)
  refine zp_k0 hk hi (by omega) (zp_k1 hk hi (by omega) ⟨vi, pk_eq (kd i) 2 (fun _ => ⟨vi, vi, ?_⟩) (fun e => absurd h e) ek⟩)
  rw [ci, ea, eb, ec, zn_cl (i := av i) (by omega), zn_cl (i := bv i) (by omega), zn_cl (i := cv i) (by omega)]
  exact ⟨vp_in_nI (by omega) (by omega), vi, vp_in_nI (by omega) (by omega), vp_in_nI (by omega) (by omega), nm_e (zp_k3 hk hi (by omega) (zp_k4 hk hi (by omega) (zp_k5 hk hi (by omega) (zp_k10 hk hi (by omega) H))))⟩
theorem zp_mul {post : SY → Prop} {i : Nat} (hk : zn_K kd yk) (hi : i < 48) (h : kd i = 3) (ea : ya i = nI (av i)) (ha : av i ≤ 7) (eb : yb i = nI (bv i)) (hb : bv i ≤ 7) (ec : yc i = nI (cv i)) (hc : cv i ≤ 7) (H : post (yN, yP, yk, ya, yb, yc, yv, upd yV (av i) (yV (bv i) * yV (cv i)), yC, yO, yL, yR, yr, yw, ym)) : wpY_plain post (yN, yP, yk, ya, yb, yc, yv, yV, yC, yO, yL, yR, yr, yw, ym) (nI i) := by
  have ek := zn_at hk (i := i) (by omega)
  obtain ⟨k11, _⟩ := hk i
  have vi : vp_in (nI i) 48 := vp_in_nI hi (by omega)
  have ci : (nI i).toNatClampNeg = i := zn_cl (by omega)
  refine zp_k0 hk hi (by omega) (zp_k1 hk hi (by omega) (zp_k2 hk hi (by omega) ⟨vi, pk_eq (kd i) 3 (fun _ => ⟨vi, vi, ?_⟩) (fun e => absurd h e) ek⟩))
  rw [ci, ea, eb, ec, zn_cl (i := av i) (by omega), zn_cl (i := bv i) (by omega), zn_cl (i := cv i) (by omega)]
  exact ⟨vp_in_nI (by omega) (by omega), vi, vp_in_nI (by omega) (by omega), vp_in_nI (by omega) (by omega), nm_e (zp_k4 hk hi (by omega) (zp_k5 hk hi (by omega) (zp_k10 hk hi (by omega) H)))⟩
theorem zp_ix {x : Int32} {s : Nat} (hs : s ≤ 2) : ∃ j, j < 8 ∧ x &&& 7 = nI j ∧ 8 * nI s + (x &&& 7) = nI (8 * s + j) ∧ vp_in (nI (8 * s + j)) 24 ∧ (nI (8 * s + j)).toNatClampNeg = 8 * s + j := by
  obtain ⟨j, hj, e⟩ := pk_andE x (m := 7) 3 (by decide)
  have hj' : j < 8 := hj
  refine ⟨j, hj', e, ?_, vp_in_nI (by omega) (by omega), zn_cl (by omega)⟩
  rw [e, ← nI_add, ← pk_mul]
  rfl
theorem zp_get {post : SY → Prop} {i j : Nat} (hk : zn_K kd yk) (hi : i < 48) (h : kd i = 4) (ea : ya i = nI (av i)) (ha : av i ≤ 7) (eb : yb i = nI (bv i)) (hb : bv i ≤ 2) (ec : yc i = nI (cv i)) (hc : cv i ≤ 7) (hj : j < 8) (ej : yV (cv i) &&& 7 = nI j) (H : post (yN, yP, yk, ya, yb, yc, yv, upd yV (av i) (yC (8 * bv i + j)), yC, yO, yL, yR, yr, yw, ym)) : wpY_plain post (yN, yP, yk, ya, yb, yc, yv, yV, yC, yO, yL, yR, yr, yw, ym) (nI i) := by
  have ek := zn_at hk (i := i) (by omega)
  obtain ⟨k11, _⟩ := hk i
  have vi : vp_in (nI i) 48 := vp_in_nI hi (by omega)
  have ci : (nI i).toNatClampNeg = i := zn_cl (by omega)
  have e8 : 8 * nI (bv i) + nI j = nI (8 * bv i + j) := by rw [← nI_add, ← pk_mul]; rfl
  refine zp_k0 hk hi (by omega) (zp_k1 hk hi (by omega) (zp_k2 hk hi (by omega) (zp_k3 hk hi (by omega) ⟨vi, pk_eq (kd i) 4 (fun _ => ⟨vi, vi, vi, ?_⟩) (fun e => absurd h e) ek⟩)))
  rw [ci, ea, eb, ec, zn_cl (i := av i) (by omega), zn_cl (i := cv i) (by omega), ej, e8, zn_cl (i := 8 * bv i + j) (by omega)]
  exact ⟨vp_in_nI (by omega) (by omega), vp_in_nI (by omega) (by omega), vp_in_nI (by omega) (by omega), nm_e (zp_k5 hk hi (by omega) (zp_k10 hk hi (by omega) H))⟩
theorem zp_put {post : SY → Prop} {i j : Nat} (hk : zn_K kd yk) (hi : i < 48) (h : kd i = 5) (ea : ya i = nI (av i)) (ha : av i ≤ 7) (eb : yb i = nI (bv i)) (hb : bv i ≤ 2) (ec : yc i = nI (cv i)) (hc : cv i ≤ 7) (hj : j < 8) (ej : yV (cv i) &&& 7 = nI j) (H : post (yN, yP, yk, ya, yb, yc, yv, yV, upd yC (8 * bv i + j) (yV (av i)), yO, yL, yR, yr, yw, ym)) : wpY_plain post (yN, yP, yk, ya, yb, yc, yv, yV, yC, yO, yL, yR, yr, yw, ym) (nI i) := by
  have ek := zn_at hk (i := i) (by omega)
  obtain ⟨k11, _⟩ := hk i
  have vi : vp_in (nI i) 48 := vp_in_nI hi (by omega)
  have ci : (nI i).toNatClampNeg = i := zn_cl (by omega)
  have e8 : 8 * nI (bv i) + nI j = nI (8 * bv i + j) := by rw [← nI_add, ← pk_mul]; rfl
  refine zp_k0 hk hi (by omega) (zp_k1 hk hi (by omega) (zp_k2 hk hi (by omega) (zp_k3 hk hi (by omega) (zp_k4 hk hi (by omega) ⟨vi, pk_eq (kd i) 5 (fun _ => ⟨vi, vi, ?_⟩) (fun e => absurd h e) ek⟩))))
  rw [ci, ea, eb, ec, zn_cl (i := av i) (by omega), zn_cl (i := cv i) (by omega), ej, e8, zn_cl (i := 8 * bv i + j) (by omega)]
  exact ⟨vp_in_nI (by omega) (by omega), vi, vp_in_nI (by omega) (by omega), vp_in_nI (by omega) (by omega), nm_e (zp_k10 hk hi (by omega) H)⟩
def zp_o (q : Int32) (o : Nat → Int32) (v : Int32) : Nat → Int32 := if q < 48 then upd o q.toNatClampNeg v else o
theorem zp_print {post : SY → Prop} {i : Nat} (hk : zn_K kd yk) (hi : i < 48) (h : kd i = 10) (ea : ya i = nI (av i)) (ha : av i ≤ 7) (h0 : ¬ yP < 0) (H : post (yN, yP + 1, yk, ya, yb, yc, yv, yV, yC, zp_o yP yO (yV (av i)), yL, yR, yr, yw, ym)) : wpY_plain post (yN, yP, yk, ya, yb, yc, yv, yV, yC, yO, yL, yR, yr, yw, ym) (nI i) := by
  have ek := zn_at hk (i := i) (by omega)
  obtain ⟨k11, _⟩ := hk i
  have vi : vp_in (nI i) 48 := vp_in_nI hi (by omega)
  have ci : (nI i).toNatClampNeg = i := zn_cl (by omega)
  refine zp_k0 hk hi (by omega) (zp_k1 hk hi (by omega) (zp_k2 hk hi (by omega) (zp_k3 hk hi (by omega) (zp_k4 hk hi (by omega) (zp_k5 hk hi (by omega) ⟨vi, pk_eq (kd i) 10 (fun _ => br_c (fun c => nm_e ?_) (fun c => ⟨vi, ?_⟩)) (fun e => absurd h e) ek⟩)))))
  · have e : zp_o yP yO (yV (av i)) = yO := if_neg (Int32.not_lt.mpr c)
    rw [e] at H
    exact H
  · have c' : yP < 48 := Int32.not_le.mp c
    have e : zp_o yP yO (yV (av i)) = upd yO yP.toNatClampNeg (yV (av i)) := if_pos c'
    rw [e] at H
    rw [ci, ea, zn_cl (i := av i) (by omega)]
    refine ⟨vp_in_nI (by omega) (by omega), ?_, nm_e (nm_e H)⟩
    obtain ⟨j, hj, rfl⟩ := nI_of h0
    have : j < 48 := (nI_ltI (b := 48) hj (by omega)).mp c'
    exact vp_in_nI this (by omega)
end ZP
end
section
section ZE
/-! the machine: one word -/
variable {xL xB xC xP xO xE xK xA xR xQ : Int32} {xk xf xs xt xv xb xc xm mem bk bT bc ent cs pv : Nat → Int32} {xw xi : Nat → Int64}
variable {post : SX → Prop} {f s p a : Nat}
theorem ze_d1 {op a : Nat} (ha : a < 1024) (ho : op < 16) : nI (1024 * op + a) >>> ((10 : Int32) &&& 31) = nI op := by
  rw [pk_shrN (n := 1024 * op + a) (by omega) ((10 : Int32) &&& 31) 10 (by decide)]
  exact congrArg nI (by omega)
theorem ze_d2 {op a : Nat} (ha : a < 1024) (ho : op < 16) : nI (1024 * op + a) &&& 1023 = nI a := by
  rw [pk_andN (n := 1024 * op + a) (by omega) 10 (by decide)]
  exact congrArg nI (by omega)
theorem ze_pc {p : Nat} (hp : p < 1024) : nI p &&& 1023 = nI p := by
  rw [pk_andN (n := p) (by omega) 10 (by decide)]
  exact congrArg nI (by omega)
theorem ze_load (hs : s < 100000) (hp : p < 1024) (ha : a < 1024) (hm : mem p = nI (1024 * 1 + a)) (H : wX_execute_22 post f (nI (s + 1)) xL xB xC xP xO xE (nI (p + 1)) (mem a) 1 xQ xk xf xs xt xv xb xc xw xi xm mem bk bT bc ent cs pv) : wX_execute_22 post (f + 1) (nI s) xL xB xC xP xO xE (nI p) xA 1 xQ xk xf xs xt xv xb xc xw xi xm mem bk bT bc ent cs pv := by
  refine br_f (nI_ge (b := 100000) hs (by omega)) (br_f (by decide) ?_)
  rw [ze_pc hp]
  refine ⟨vp_in_nI hp (by omega), nm_r (e' := nI (1024 * 1 + a)) (by rw [zn_cl (i := p) (by omega)]; exact hm) (nm_r (nI_1 p) ?_)⟩
  rw [ze_d1 ha (by omega), ze_d2 ha (by omega)]
  have va : vp_in (nI a) 1024 := vp_in_nI ha (by omega)
  have ca : (nI a).toNatClampNeg = a := zn_cl (by omega)
  exact br_t rfl ⟨va, nm_r (e' := mem a) (by rw [ca]) (nm_r (nI_1 s) H)⟩
theorem ze_store (hs : s < 100000) (hp : p < 1024) (ha : a < 1024) (hm : mem p = nI (1024 * 2 + a)) (H : wX_execute_22 post f (nI (s + 1)) xL xB xC xP xO xE (nI (p + 1)) xA 1 xQ xk xf xs xt xv xb xc xw xi xm (upd mem a xA) bk bT bc ent cs pv) : wX_execute_22 post (f + 1) (nI s) xL xB xC xP xO xE (nI p) xA 1 xQ xk xf xs xt xv xb xc xw xi xm mem bk bT bc ent cs pv := by
  refine br_f (nI_ge (b := 100000) hs (by omega)) (br_f (by decide) ?_)
  rw [ze_pc hp]
  refine ⟨vp_in_nI hp (by omega), nm_r (e' := nI (1024 * 2 + a)) (by rw [zn_cl (i := p) (by omega)]; exact hm) (nm_r (nI_1 p) ?_)⟩
  rw [ze_d1 ha (by omega), ze_d2 ha (by omega)]
  have va : vp_in (nI a) 1024 := vp_in_nI ha (by omega)
  have ca : (nI a).toNatClampNeg = a := zn_cl (by omega)
  exact br_f (by decide) (br_t rfl ⟨va, nm_r (e' := upd mem a xA) (by rw [ca]) (nm_r (nI_1 s) H)⟩)
theorem ze_add (hs : s < 100000) (hp : p < 1024) (ha : a < 1024) (hm : mem p = nI (1024 * 3 + a)) (H : wX_execute_22 post f (nI (s + 1)) xL xB xC xP xO xE (nI (p + 1)) (xA + mem a) 1 xQ xk xf xs xt xv xb xc xw xi xm mem bk bT bc ent cs pv) : wX_execute_22 post (f + 1) (nI s) xL xB xC xP xO xE (nI p) xA 1 xQ xk xf xs xt xv xb xc xw xi xm mem bk bT bc ent cs pv := by
  refine br_f (nI_ge (b := 100000) hs (by omega)) (br_f (by decide) ?_)
  rw [ze_pc hp]
  refine ⟨vp_in_nI hp (by omega), nm_r (e' := nI (1024 * 3 + a)) (by rw [zn_cl (i := p) (by omega)]; exact hm) (nm_r (nI_1 p) ?_)⟩
  rw [ze_d1 ha (by omega), ze_d2 ha (by omega)]
  have va : vp_in (nI a) 1024 := vp_in_nI ha (by omega)
  have ca : (nI a).toNatClampNeg = a := zn_cl (by omega)
  exact br_f (by decide) (br_f (by decide) (br_t rfl ⟨va, nm_r (e' := xA + mem a) (by rw [ca]) (nm_r (nI_1 s) H)⟩))
theorem ze_sub (hs : s < 100000) (hp : p < 1024) (ha : a < 1024) (hm : mem p = nI (1024 * 4 + a)) (H : wX_execute_22 post f (nI (s + 1)) xL xB xC xP xO xE (nI (p + 1)) (xA - mem a) 1 xQ xk xf xs xt xv xb xc xw xi xm mem bk bT bc ent cs pv) : wX_execute_22 post (f + 1) (nI s) xL xB xC xP xO xE (nI p) xA 1 xQ xk xf xs xt xv xb xc xw xi xm mem bk bT bc ent cs pv := by
  refine br_f (nI_ge (b := 100000) hs (by omega)) (br_f (by decide) ?_)
  rw [ze_pc hp]
  refine ⟨vp_in_nI hp (by omega), nm_r (e' := nI (1024 * 4 + a)) (by rw [zn_cl (i := p) (by omega)]; exact hm) (nm_r (nI_1 p) ?_)⟩
  rw [ze_d1 ha (by omega), ze_d2 ha (by omega)]
  have va : vp_in (nI a) 1024 := vp_in_nI ha (by omega)
  have ca : (nI a).toNatClampNeg = a := zn_cl (by omega)
  exact br_f (by decide) (br_f (by decide) (br_f (by decide) (br_t rfl ⟨va, nm_r (e' := xA - mem a) (by rw [ca]) (nm_r (nI_1 s) H)⟩)))
theorem ze_mul (hs : s < 100000) (hp : p < 1024) (ha : a < 1024) (hm : mem p = nI (1024 * 5 + a)) (H : wX_execute_22 post f (nI (s + 1)) xL xB xC xP xO xE (nI (p + 1)) (xA * mem a) 1 xQ xk xf xs xt xv xb xc xw xi xm mem bk bT bc ent cs pv) : wX_execute_22 post (f + 1) (nI s) xL xB xC xP xO xE (nI p) xA 1 xQ xk xf xs xt xv xb xc xw xi xm mem bk bT bc ent cs pv := by
  refine br_f (nI_ge (b := 100000) hs (by omega)) (br_f (by decide) ?_)
  rw [ze_pc hp]
  refine ⟨vp_in_nI hp (by omega), nm_r (e' := nI (1024 * 5 + a)) (by rw [zn_cl (i := p) (by omega)]; exact hm) (nm_r (nI_1 p) ?_)⟩
  rw [ze_d1 ha (by omega), ze_d2 ha (by omega)]
  have va : vp_in (nI a) 1024 := vp_in_nI ha (by omega)
  have ca : (nI a).toNatClampNeg = a := zn_cl (by omega)
  exact br_f (by decide) (br_f (by decide) (br_f (by decide) (br_f (by decide) (br_t rfl ⟨va, nm_r (e' := xA * mem a) (by rw [ca]) (nm_r (nI_1 s) H)⟩))))
theorem ze_and (hs : s < 100000) (hp : p < 1024) (ha : a < 1024) (hm : mem p = nI (1024 * 6 + a)) (H : wX_execute_22 post f (nI (s + 1)) xL xB xC xP xO xE (nI (p + 1)) (xA &&& mem a) 1 xQ xk xf xs xt xv xb xc xw xi xm mem bk bT bc ent cs pv) : wX_execute_22 post (f + 1) (nI s) xL xB xC xP xO xE (nI p) xA 1 xQ xk xf xs xt xv xb xc xw xi xm mem bk bT bc ent cs pv := by
  refine br_f (nI_ge (b := 100000) hs (by omega)) (br_f (by decide) ?_)
  rw [ze_pc hp]
  refine ⟨vp_in_nI hp (by omega), nm_r (e' := nI (1024 * 6 + a)) (by rw [zn_cl (i := p) (by omega)]; exact hm) (nm_r (nI_1 p) ?_)⟩
  rw [ze_d1 ha (by omega), ze_d2 ha (by omega)]
  have va : vp_in (nI a) 1024 := vp_in_nI ha (by omega)
  have ca : (nI a).toNatClampNeg = a := zn_cl (by omega)
  exact br_f (by decide) (br_f (by decide) (br_f (by decide) (br_f (by decide) (br_f (by decide) (br_t rfl ⟨va, nm_r (e' := xA &&& mem a) (by rw [ca]) (nm_r (nI_1 s) H)⟩)))))
theorem ze_jump (hs : s < 100000) (hp : p < 1024) (ha : a < 1024) (hm : mem p = nI (1024 * 7 + a)) (H : wX_execute_22 post f (nI (s + 1)) xL xB xC xP xO xE (nI a) xA 1 xQ xk xf xs xt xv xb xc xw xi xm mem bk bT bc ent cs pv) : wX_execute_22 post (f + 1) (nI s) xL xB xC xP xO xE (nI p) xA 1 xQ xk xf xs xt xv xb xc xw xi xm mem bk bT bc ent cs pv := by
  refine br_f (nI_ge (b := 100000) hs (by omega)) (br_f (by decide) ?_)
  rw [ze_pc hp]
  refine ⟨vp_in_nI hp (by omega), nm_r (e' := nI (1024 * 7 + a)) (by rw [zn_cl (i := p) (by omega)]; exact hm) (nm_r (nI_1 p) ?_)⟩
  rw [ze_d1 ha (by omega), ze_d2 ha (by omega)]
  have va : vp_in (nI a) 1024 := vp_in_nI ha (by omega)
  have ca : (nI a).toNatClampNeg = a := zn_cl (by omega)
  exact br_f (by decide) (br_f (by decide) (br_f (by decide) (br_f (by decide) (br_f (by decide) (br_f (by decide) (br_t rfl (nm_r (nI_1 s) H)))))))
theorem ze_pos (hs : s < 100000) (hp : p < 1024) (ha : a < 1024) (hm : mem p = nI (1024 * 8 + a)) (h0 : 0 < xA) (H : wX_execute_22 post f (nI (s + 1)) xL xB xC xP xO xE (nI (p + 1)) xA 1 xQ xk xf xs xt xv xb xc xw xi xm mem bk bT bc ent cs pv) : wX_execute_22 post (f + 1) (nI s) xL xB xC xP xO xE (nI p) xA 1 xQ xk xf xs xt xv xb xc xw xi xm mem bk bT bc ent cs pv := by
  refine br_f (nI_ge (b := 100000) hs (by omega)) (br_f (by decide) ?_)
  rw [ze_pc hp]
  refine ⟨vp_in_nI hp (by omega), nm_r (e' := nI (1024 * 8 + a)) (by rw [zn_cl (i := p) (by omega)]; exact hm) (nm_r (nI_1 p) ?_)⟩
  rw [ze_d1 ha (by omega), ze_d2 ha (by omega)]
  have va : vp_in (nI a) 1024 := vp_in_nI ha (by omega)
  have ca : (nI a).toNatClampNeg = a := zn_cl (by omega)
  exact br_f (by decide) (br_f (by decide) (br_f (by decide) (br_f (by decide) (br_f (by decide) (br_f (by decide) (br_f (by decide) (br_t rfl (br_t h0 (nm_r (nI_1 s) H)))))))))
theorem ze_npos (hs : s < 100000) (hp : p < 1024) (ha : a < 1024) (hm : mem p = nI (1024 * 8 + a)) (h0 : ¬ 0 < xA) (H : wX_execute_22 post f (nI (s + 1)) xL xB xC xP xO xE (nI a) xA 1 xQ xk xf xs xt xv xb xc xw xi xm mem bk bT bc ent cs pv) : wX_execute_22 post (f + 1) (nI s) xL xB xC xP xO xE (nI p) xA 1 xQ xk xf xs xt xv xb xc xw xi xm mem bk bT bc ent cs pv := by
  refine br_f (nI_ge (b := 100000) hs (by omega)) (br_f (by decide) ?_)
  rw [ze_pc hp]
  refine ⟨vp_in_nI hp (by omega), nm_r (e' := nI (1024 * 8 + a)) (by rw [zn_cl (i := p) (by omega)]; exact hm) (nm_r (nI_1 p) ?_)⟩
  rw [ze_d1 ha (by omega), ze_d2 ha (by omega)]
  have va : vp_in (nI a) 1024 := vp_in_nI ha (by omega)
  have ca : (nI a).toNatClampNeg = a := zn_cl (by omega)
  exact br_f (by decide) (br_f (by decide) (br_f (by decide) (br_f (by decide) (br_f (by decide) (br_f (by decide) (br_f (by decide) (br_t rfl (br_f h0 (nm_r (nI_1 s) H)))))))))
theorem ze_print (hs : s < 100000) (hp : p < 1024) (ha : a < 1024) (hm : mem p = nI (1024 * 9 + a)) (h0 : ¬ xQ < 0) (H : wX_execute_22 post f (nI (s + 1)) xL xB xC xP xO xE (nI (p + 1)) xA 1 (xQ + 1) xk xf xs xt xv xb xc xw xi xm mem bk bT bc ent cs (zp_o xQ pv (mem a))) : wX_execute_22 post (f + 1) (nI s) xL xB xC xP xO xE (nI p) xA 1 xQ xk xf xs xt xv xb xc xw xi xm mem bk bT bc ent cs pv := by
  refine br_f (nI_ge (b := 100000) hs (by omega)) (br_f (by decide) ?_)
  rw [ze_pc hp]
  refine ⟨vp_in_nI hp (by omega), nm_r (e' := nI (1024 * 9 + a)) (by rw [zn_cl (i := p) (by omega)]; exact hm) (nm_r (nI_1 p) ?_)⟩
  rw [ze_d1 ha (by omega), ze_d2 ha (by omega)]
  have va : vp_in (nI a) 1024 := vp_in_nI ha (by omega)
  have ca : (nI a).toNatClampNeg = a := zn_cl (by omega)
  refine br_f (by decide) (br_f (by decide) (br_f (by decide) (br_f (by decide) (br_f (by decide) (br_f (by decide) (br_f (by decide) (br_f (by decide) (br_t rfl ⟨va, ?_⟩))))))))
  rw [ca]
  refine br_c (fun c => nm_e ?_) (fun c => ?_)
  · have e : zp_o xQ pv (mem a) = pv := if_neg (Int32.not_lt.mpr c)
    rw [e] at H
    exact (nm_r (nI_1 s) H)
  · have c' : xQ < 48 := Int32.not_le.mp c
    have e : zp_o xQ pv (mem a) = upd pv xQ.toNatClampNeg (mem a) := if_pos c'
    rw [e] at H
    refine ⟨?_, nm_e (nm_e (nm_r (nI_1 s) H))⟩
    obtain ⟨j, hj, rfl⟩ := nI_of h0
    have : j < 48 := (nI_ltI (b := 48) hj (by omega)).mp c'
    exact vp_in_nI this (by omega)
theorem ze_stop (hs : s < 100000) (hp : p < 1024) (hm : mem p = 0) (H : post (xL, xB, xC, xP, xO, xE, nI (p + 1), xA, 0, xQ, xk, xf, xs, xt, xv, xb, xc, xw, xi, xm, mem, bk, bT, bc, ent, cs, pv)) : wX_execute_22 post (f + 2) (nI s) xL xB xC xP xO xE (nI p) xA 1 xQ xk xf xs xt xv xb xc xw xi xm mem bk bT bc ent cs pv := by
  have hm' : mem p = nI (1024 * 0 + 0) := hm
  refine br_f (nI_ge (b := 100000) hs (by omega)) (br_f (by decide) ?_)
  rw [ze_pc hp]
  refine ⟨vp_in_nI hp (by omega), nm_r (e' := nI (1024 * 0 + 0)) (by rw [zn_cl (i := p) (by omega)]; exact hm') (nm_r (nI_1 p) ?_)⟩
  rw [ze_d1 (by omega) (by omega), ze_d2 (by omega) (by omega)]
  refine br_f (by decide) (br_f (by decide) (br_f (by decide) (br_f (by decide) (br_f (by decide) (br_f (by decide) (br_f (by decide) (br_f (by decide) (br_f (by decide) (nm_r (nI_1 s) (br_c (fun _ => H) (fun _ => br_t rfl H)))))))))))
end ZE
end
section
section ZT
/-! the reference: one turn -/
variable {yN yP : Int32} {yk ya yb yc yv yV yC yO yL yR yr : Nat → Int32} {yw ym : Nat → Int64}
variable {kd av bv cv : Nat → Nat} {n : Nat} {post : Int32 → SY → Prop} {f i tn : Nat} {p3 : Int32}
theorem zt_set (hk : zn_K kd yk) (hn : n ≤ 48) (hi : i < n) (ht : tn < 40000) (h : kd i = 0) (ea : ya i = nI (av i)) (ha : av i ≤ 7) (H : wY_run_73 post f (nI (i + 1)) p3 0 (nI (tn + 1)) (nI n) yP yk ya yb yc yv (upd yV (av i) (yb i)) yC yO yL yR yr yw ym) : wY_run_73 post (f + 1) (nI i) p3 0 (nI tn) (nI n) yP yk ya yb yc yv yV yC yO yL yR yr yw ym := by
  obtain ⟨k11, _⟩ := hk i
  have ek := zn_at hk (i := i) (by omega)
  have hi' : i < 48 := by omega
  have vi : vp_in (nI i) 48 := vp_in_nI (by omega) (by omega)
  have ci : (nI i).toNatClampNeg = i := zn_cl (by omega)
  refine br_f (nI_ge (b := 40000) ht (by omega)) (br_t rfl (br_f (nI_ge hi (by omega)) ⟨vi, pk_eq (kd i) 11 (fun e => absurd e (by omega)) (fun _ => ⟨vi, pk_eq (kd i) 6 (fun e => absurd e (by omega)) (fun _ => ⟨vi, pk_eq (kd i) 7 (fun e => absurd e (by omega)) (fun _ => ⟨vi, pk_eq (kd i) 8 (fun e => absurd e (by omega)) (fun _ => ⟨vi, pk_eq (kd i) 9 (fun e => absurd e (by omega)) (fun _ => zp_set hk hi' h ea ha ?_) ek⟩) ek⟩) ek⟩) ek⟩) ek⟩))
  exact ⟨vi, pk_eq (kd i) 9 (fun e => absurd e (by omega)) (fun _ => nm_r (nI_1 tn) (by rw [nI_1 i]; exact H)) ek⟩
theorem zt_add (hk : zn_K kd yk) (hn : n ≤ 48) (hi : i < n) (ht : tn < 40000) (h : kd i = 1) (ea : ya i = nI (av i)) (ha : av i ≤ 7) (eb : yb i = nI (bv i)) (hb : bv i ≤ 7) (ec : yc i = nI (cv i)) (hc : cv i ≤ 7) (H : wY_run_73 post f (nI (i + 1)) p3 0 (nI (tn + 1)) (nI n) yP yk ya yb yc yv (upd yV (av i) (yV (bv i) + yV (cv i))) yC yO yL yR yr yw ym) : wY_run_73 post (f + 1) (nI i) p3 0 (nI tn) (nI n) yP yk ya yb yc yv yV yC yO yL yR yr yw ym := by
  obtain ⟨k11, _⟩ := hk i
  have ek := zn_at hk (i := i) (by omega)
  have hi' : i < 48 := by omega
  have vi : vp_in (nI i) 48 := vp_in_nI (by omega) (by omega)
  have ci : (nI i).toNatClampNeg = i := zn_cl (by omega)
  refine br_f (nI_ge (b := 40000) ht (by omega)) (br_t rfl (br_f (nI_ge hi (by omega)) ⟨vi, pk_eq (kd i) 11 (fun e => absurd e (by omega)) (fun _ => ⟨vi, pk_eq (kd i) 6 (fun e => absurd e (by omega)) (fun _ => ⟨vi, pk_eq (kd i) 7 (fun e => absurd e (by omega)) (fun _ => ⟨vi, pk_eq (kd i) 8 (fun e => absurd e (by omega)) (fun _ => ⟨vi, pk_eq (kd i) 9 (fun e => absurd e (by omega)) (fun _ => zp_add hk hi' h ea ha eb hb ec hc ?_) ek⟩) ek⟩) ek⟩) ek⟩) ek⟩))
  exact ⟨vi, pk_eq (kd i) 9 (fun e => absurd e (by omega)) (fun _ => nm_r (nI_1 tn) (by rw [nI_1 i]; exact H)) ek⟩
theorem zt_sub (hk : zn_K kd yk) (hn : n ≤ 48) (hi : i < n) (ht : tn < 40000) (h : kd i = 2) (ea : ya i = nI (av i)) (ha : av i ≤ 7) (eb : yb i = nI (bv i)) (hb : bv i ≤ 7) (ec : yc i = nI (cv i)) (hc : cv i ≤ 7) (H : wY_run_73 post f (nI (i + 1)) p3 0 (nI (tn + 1)) (nI n) yP yk ya yb yc yv (upd yV (av i) (yV (bv i) - yV (cv i))) yC yO yL yR yr yw ym) : wY_run_73 post (f + 1) (nI i) p3 0 (nI tn) (nI n) yP yk ya yb yc yv yV yC yO yL yR yr yw ym := by
  obtain ⟨k11, _⟩ := hk i
  have ek := zn_at hk (i := i) (by omega)
  have hi' : i < 48 := by omega
  have vi : vp_in (nI i) 48 := vp_in_nI (by omega) (by omega)
  have ci : (nI i).toNatClampNeg = i := zn_cl (by omega)
  refine br_f (nI_ge (b := 40000) ht (by omega)) (br_t rfl (br_f (nI_ge hi (by omega)) ⟨vi, pk_eq (kd i) 11 (fun e => absurd e (by omega)) (fun _ => ⟨vi, pk_eq (kd i) 6 (fun e => absurd e (by omega)) (fun _ => ⟨vi, pk_eq (kd i) 7 (fun e => absurd e (by omega)) (fun _ => ⟨vi, pk_eq (kd i) 8 (fun e => absurd e (by omega)) (fun _ => ⟨vi, pk_eq (kd i) 9 (fun e => absurd e (by omega)) (fun _ => zp_sub hk hi' h ea ha eb hb ec hc ?_) ek⟩) ek⟩) ek⟩) ek⟩) ek⟩))
  exact ⟨vi, pk_eq (kd i) 9 (fun e => absurd e (by omega)) (fun _ => nm_r (nI_1 tn) (by rw [nI_1 i]; exact H)) ek⟩
theorem zt_mul (hk : zn_K kd yk) (hn : n ≤ 48) (hi : i < n) (ht : tn < 40000) (h : kd i = 3) (ea : ya i = nI (av i)) (ha : av i ≤ 7) (eb : yb i = nI (bv i)) (hb : bv i ≤ 7) (ec : yc i = nI (cv i)) (hc : cv i ≤ 7) (H : wY_run_73 post f (nI (i + 1)) p3 0 (nI (tn + 1)) (nI n) yP yk ya yb yc yv (upd yV (av i) (yV (bv i) * yV (cv i))) yC yO yL yR yr yw ym) : wY_run_73 post (f + 1) (nI i) p3 0 (nI tn) (nI n) yP yk ya yb yc yv yV yC yO yL yR yr yw ym := by
  obtain ⟨k11, _⟩ := hk i
  have ek := zn_at hk (i := i) (by omega)
  have hi' : i < 48 := by omega
  have vi : vp_in (nI i) 48 := vp_in_nI (by omega) (by omega)
  have ci : (nI i).toNatClampNeg = i := zn_cl (by omega)
  refine br_f (nI_ge (b := 40000) ht (by omega)) (br_t rfl (br_f (nI_ge hi (by omega)) ⟨vi, pk_eq (kd i) 11 (fun e => absurd e (by omega)) (fun _ => ⟨vi, pk_eq (kd i) 6 (fun e => absurd e (by omega)) (fun _ => ⟨vi, pk_eq (kd i) 7 (fun e => absurd e (by omega)) (fun _ => ⟨vi, pk_eq (kd i) 8 (fun e => absurd e (by omega)) (fun _ => ⟨vi, pk_eq (kd i) 9 (fun e => absurd e (by omega)) (fun _ => zp_mul hk hi' h ea ha eb hb ec hc ?_) ek⟩) ek⟩) ek⟩) ek⟩) ek⟩))
  exact ⟨vi, pk_eq (kd i) 9 (fun e => absurd e (by omega)) (fun _ => nm_r (nI_1 tn) (by rw [nI_1 i]; exact H)) ek⟩
theorem zt_get (hk : zn_K kd yk) (hn : n ≤ 48) (hi : i < n) (ht : tn < 40000) (h : kd i = 4) (ea : ya i = nI (av i)) (ha : av i ≤ 7) (eb : yb i = nI (bv i)) (hb : bv i ≤ 2) (ec : yc i = nI (cv i)) (hc : cv i ≤ 7) {j : Nat} (hj : j < 8) (ej : yV (cv i) &&& 7 = nI j) (H : wY_run_73 post f (nI (i + 1)) p3 0 (nI (tn + 1)) (nI n) yP yk ya yb yc yv (upd yV (av i) (yC (8 * bv i + j))) yC yO yL yR yr yw ym) : wY_run_73 post (f + 1) (nI i) p3 0 (nI tn) (nI n) yP yk ya yb yc yv yV yC yO yL yR yr yw ym := by
  obtain ⟨k11, _⟩ := hk i
  have ek := zn_at hk (i := i) (by omega)
  have hi' : i < 48 := by omega
  have vi : vp_in (nI i) 48 := vp_in_nI (by omega) (by omega)
  have ci : (nI i).toNatClampNeg = i := zn_cl (by omega)
  refine br_f (nI_ge (b := 40000) ht (by omega)) (br_t rfl (br_f (nI_ge hi (by omega)) ⟨vi, pk_eq (kd i) 11 (fun e => absurd e (by omega)) (fun _ => ⟨vi, pk_eq (kd i) 6 (fun e => absurd e (by omega)) (fun _ => ⟨vi, pk_eq (kd i) 7 (fun e => absurd e (by omega)) (fun _ => ⟨vi, pk_eq (kd i) 8 (fun e => absurd e (by omega)) (fun _ => ⟨vi, pk_eq (kd i) 9 (fun e => absurd e (by omega)) (fun _ => zp_get hk hi' h ea ha eb hb ec hc hj ej ?_) ek⟩) ek⟩) ek⟩) ek⟩) ek⟩))
  exact ⟨vi, pk_eq (kd i) 9 (fun e => absurd e (by omega)) (fun _ => nm_r (nI_1 tn) (by rw [nI_1 i]; exact H)) ek⟩
theorem zt_put (hk : zn_K kd yk) (hn : n ≤ 48) (hi : i < n) (ht : tn < 40000) (h : kd i = 5) (ea : ya i = nI (av i)) (ha : av i ≤ 7) (eb : yb i = nI (bv i)) (hb : bv i ≤ 2) (ec : yc i = nI (cv i)) (hc : cv i ≤ 7) {j : Nat} (hj : j < 8) (ej : yV (cv i) &&& 7 = nI j) (H : wY_run_73 post f (nI (i + 1)) p3 0 (nI (tn + 1)) (nI n) yP yk ya yb yc yv yV (upd yC (8 * bv i + j) (yV (av i))) yO yL yR yr yw ym) : wY_run_73 post (f + 1) (nI i) p3 0 (nI tn) (nI n) yP yk ya yb yc yv yV yC yO yL yR yr yw ym := by
  obtain ⟨k11, _⟩ := hk i
  have ek := zn_at hk (i := i) (by omega)
  have hi' : i < 48 := by omega
  have vi : vp_in (nI i) 48 := vp_in_nI (by omega) (by omega)
  have ci : (nI i).toNatClampNeg = i := zn_cl (by omega)
  refine br_f (nI_ge (b := 40000) ht (by omega)) (br_t rfl (br_f (nI_ge hi (by omega)) ⟨vi, pk_eq (kd i) 11 (fun e => absurd e (by omega)) (fun _ => ⟨vi, pk_eq (kd i) 6 (fun e => absurd e (by omega)) (fun _ => ⟨vi, pk_eq (kd i) 7 (fun e => absurd e (by omega)) (fun _ => ⟨vi, pk_eq (kd i) 8 (fun e => absurd e (by omega)) (fun _ => ⟨vi, pk_eq (kd i) 9 (fun e => absurd e (by omega)) (fun _ => zp_put hk hi' h ea ha eb hb ec hc hj ej ?_) ek⟩) ek⟩) ek⟩) ek⟩) ek⟩))
  exact ⟨vi, pk_eq (kd i) 9 (fun e => absurd e (by omega)) (fun _ => nm_r (nI_1 tn) (by rw [nI_1 i]; exact H)) ek⟩
theorem zt_print (hk : zn_K kd yk) (hn : n ≤ 48) (hi : i < n) (ht : tn < 40000) (h : kd i = 10) (ea : ya i = nI (av i)) (ha : av i ≤ 7) (h0 : ¬ yP < 0) (H : wY_run_73 post f (nI (i + 1)) p3 0 (nI (tn + 1)) (nI n) (yP + 1) yk ya yb yc yv yV yC (zp_o yP yO (yV (av i))) yL yR yr yw ym) : wY_run_73 post (f + 1) (nI i) p3 0 (nI tn) (nI n) yP yk ya yb yc yv yV yC yO yL yR yr yw ym := by
  obtain ⟨k11, _⟩ := hk i
  have ek := zn_at hk (i := i) (by omega)
  have hi' : i < 48 := by omega
  have vi : vp_in (nI i) 48 := vp_in_nI (by omega) (by omega)
  have ci : (nI i).toNatClampNeg = i := zn_cl (by omega)
  refine br_f (nI_ge (b := 40000) ht (by omega)) (br_t rfl (br_f (nI_ge hi (by omega)) ⟨vi, pk_eq (kd i) 11 (fun e => absurd e (by omega)) (fun _ => ⟨vi, pk_eq (kd i) 6 (fun e => absurd e (by omega)) (fun _ => ⟨vi, pk_eq (kd i) 7 (fun e => absurd e (by omega)) (fun _ => ⟨vi, pk_eq (kd i) 8 (fun e => absurd e (by omega)) (fun _ => ⟨vi, pk_eq (kd i) 9 (fun e => absurd e (by omega)) (fun _ => zp_print hk hi' h ea ha h0 ?_) ek⟩) ek⟩) ek⟩) ek⟩) ek⟩))
  exact ⟨vi, pk_eq (kd i) 9 (fun e => absurd e (by omega)) (fun _ => nm_r (nI_1 tn) (by rw [nI_1 i]; exact H)) ek⟩
theorem zt_if (hk : zn_K kd yk) (hn : n ≤ 48) (hi : i < n) (ht : tn < 40000) (h : kd i = 6) (ea : ya i = nI (av i)) (ha : av i ≤ 7) (h0 : 0 < yV (av i)) (H : wY_run_73 post f (nI (i + 1)) p3 0 (nI (tn + 1)) (nI n) yP yk ya yb yc yv yV yC yO yL yR yr yw ym) : wY_run_73 post (f + 1) (nI i) p3 0 (nI tn) (nI n) yP yk ya yb yc yv yV yC yO yL yR yr yw ym := by
  obtain ⟨k11, _⟩ := hk i
  have ek := zn_at hk (i := i) (by omega)
  have hi' : i < 48 := by omega
  have vi : vp_in (nI i) 48 := vp_in_nI (by omega) (by omega)
  have ci : (nI i).toNatClampNeg = i := zn_cl (by omega)
  refine br_f (nI_ge (b := 40000) ht (by omega)) (br_t rfl (br_f (nI_ge hi (by omega)) ⟨vi, pk_eq (kd i) 11 (fun e => absurd e (by omega)) (fun _ => ⟨vi, pk_eq (kd i) 6 (fun _ => ⟨vi, ?_⟩) (fun e => absurd h e) ek⟩) ek⟩))
  rw [ci, ea, zn_cl (i := av i) (by omega)]
  refine ⟨vp_in_nI (by omega) (by omega), br_t h0 ⟨vi, pk_eq (kd i) 7 (fun e => absurd e (by omega)) (fun _ => ⟨vi, pk_eq (kd i) 8 (fun e => absurd e (by omega)) (fun _ => ⟨vi, pk_eq (kd i) 9 (fun e => absurd e (by omega)) (fun _ => zp_none hk hi' (by omega) (by omega) ?_) ek⟩) ek⟩) ek⟩⟩
  exact ⟨vi, pk_eq (kd i) 9 (fun e => absurd e (by omega)) (fun _ => nm_r (nI_1 tn) (by rw [nI_1 i]; exact H)) (hk i).2⟩
theorem zt_skip (hw : zs_WF kd n) (hk : zn_K kd yk) (hn : n ≤ 48) (hi : i < n) (ht : tn < 40000) (h : kd i = 6) (ea : ya i = nI (av i)) (ha : av i ≤ 7) (h0 : ¬ 0 < yV (av i)) (H : wY_run_73 post f (nI (zs_en kd n i + 1)) p3 0 (nI (tn + 1)) (nI n) yP yk ya yb yc yv yV yC yO yL yR yr yw ym) : wY_run_73 post (f + 1) (nI i) p3 0 (nI tn) (nI n) yP yk ya yb yc yv yV yC yO yL yR yr yw ym := by
  obtain ⟨k11, _⟩ := hk i
  have ek := zn_at hk (i := i) (by omega)
  have hi' : i < 48 := by omega
  have vi : vp_in (nI i) 48 := vp_in_nI (by omega) (by omega)
  have ci : (nI i).toNatClampNeg = i := zn_cl (by omega)
  refine br_f (nI_ge (b := 40000) ht (by omega)) (br_t rfl (br_f (nI_ge hi (by omega)) ⟨vi, pk_eq (kd i) 11 (fun e => absurd e (by omega)) (fun _ => ⟨vi, pk_eq (kd i) 6 (fun _ => ⟨vi, ?_⟩) (fun e => absurd h e) ek⟩) ek⟩))
  rw [ci, ea, zn_cl (i := av i) (by omega)]
  refine ⟨vp_in_nI (by omega) (by omega), br_f h0 (zp_end hk hn hw hi (Or.inl h) ?_)⟩
  exact ⟨vi, pk_eq (kd i) 9 (fun e => absurd e (by omega)) (fun _ => nm_r (nI_1 tn) (by rw [nI_1 (zs_en kd n i)]; exact H)) (by rw [← zn_at hk (i := i) (by omega), ci])⟩
theorem zt_loop (hk : zn_K kd yk) (hn : n ≤ 48) (hi : i < n) (ht : tn < 40000) (h : kd i = 7) (ea : ya i = nI (av i)) (H : wY_run_73 post f (nI (i + 1)) p3 0 (nI (tn + 1)) (nI n) yP yk ya yb yc yv yV yC yO (upd yL i (nI (av i))) yR yr yw ym) : wY_run_73 post (f + 1) (nI i) p3 0 (nI tn) (nI n) yP yk ya yb yc yv yV yC yO yL yR yr yw ym := by
  obtain ⟨k11, _⟩ := hk i
  have ek := zn_at hk (i := i) (by omega)
  have hi' : i < 48 := by omega
  have vi : vp_in (nI i) 48 := vp_in_nI (by omega) (by omega)
  have ci : (nI i).toNatClampNeg = i := zn_cl (by omega)
  refine br_f (nI_ge (b := 40000) ht (by omega)) (br_t rfl (br_f (nI_ge hi (by omega)) ⟨vi, pk_eq (kd i) 11 (fun e => absurd e (by omega)) (fun _ => ⟨vi, pk_eq (kd i) 6 (fun e => absurd e (by omega)) (fun _ => ⟨vi, pk_eq (kd i) 7 (fun _ => ⟨vi, vi, ?_⟩) (fun e => absurd h e) ek⟩) ek⟩) ek⟩))
  refine nm_r (e' := upd yL i (nI (av i))) (by rw [ci, ea]) ⟨vi, pk_eq (kd i) 8 (fun e => absurd e (by omega)) (fun _ => ⟨vi, pk_eq (kd i) 9 (fun e => absurd e (by omega)) (fun _ => zp_none hk hi' (by omega) (by omega) ?_) ek⟩) ek⟩
  exact ⟨vi, pk_eq (kd i) 9 (fun e => absurd e (by omega)) (fun _ => nm_r (nI_1 tn) (by rw [nI_1 i]; exact H)) ek⟩
theorem zt_endif (hw : zs_WF kd n) {o : Nat} {os : List Nat} (hk : zn_K kd yk) (hn : n ≤ 48) (hi : i < n) (ht : tn < 40000) (h : kd i = 8) (e : zs_t kd i = o :: os) (h6 : kd o = 6) (H : wY_run_73 post f (nI (i + 1)) p3 0 (nI (tn + 1)) (nI n) yP yk ya yb yc yv yV yC yO yL yR yr yw ym) : wY_run_73 post (f + 1) (nI i) p3 0 (nI tn) (nI n) yP yk ya yb yc yv yV yC yO yL yR yr yw ym := by
  obtain ⟨k11, _⟩ := hk i
  have ek := zn_at hk (i := i) (by omega)
  have hi' : i < 48 := by omega
  have vi : vp_in (nI i) 48 := vp_in_nI (by omega) (by omega)
  have ci : (nI i).toNatClampNeg = i := zn_cl (by omega)
  obtain ⟨_, _, c3, _, _⟩ := zs_close h e
  have eo := zn_at hk (i := o) (by omega)
  refine br_f (nI_ge (b := 40000) ht (by omega)) (br_t rfl (br_f (nI_ge hi (by omega)) ⟨vi, pk_eq (kd i) 11 (fun e => absurd e (by omega)) (fun _ => ⟨vi, pk_eq (kd i) 6 (fun e => absurd e (by omega)) (fun _ => ⟨vi, pk_eq (kd i) 7 (fun e => absurd e (by omega)) (fun _ => ⟨vi, pk_eq (kd i) 8 (fun _ => zp_op hk hn hw hi h e ⟨vp_in_nI (by omega) (by omega), pk_eq (kd o) 7 (fun e => absurd e (by omega)) (fun _ => ?_) eo⟩) (fun e => absurd h e) ek⟩) ek⟩) ek⟩) ek⟩))
  refine ⟨vi, pk_eq (kd i) 9 (fun e => absurd e (by omega)) (fun _ => zp_none hk hi' (by omega) (by omega) ?_) ek⟩
  exact ⟨vi, pk_eq (kd i) 9 (fun e => absurd e (by omega)) (fun _ => nm_r (nI_1 tn) (by rw [nI_1 i]; exact H)) ek⟩
theorem zt_exit (hw : zs_WF kd n) {o : Nat} {os : List Nat} (hk : zn_K kd yk) (hn : n ≤ 48) (hi : i < n) (ht : tn < 40000) (h : kd i = 8) (e : zs_t kd i = o :: os) (h7 : kd o = 7) (h0 : yL o - 1 ≤ 0) (H : wY_run_73 post f (nI (i + 1)) p3 0 (nI (tn + 1)) (nI n) yP yk ya yb yc yv yV yC yO (upd yL o (yL o - 1)) yR yr yw ym) : wY_run_73 post (f + 1) (nI i) p3 0 (nI tn) (nI n) yP yk ya yb yc yv yV yC yO yL yR yr yw ym := by
  obtain ⟨k11, _⟩ := hk i
  have ek := zn_at hk (i := i) (by omega)
  have hi' : i < 48 := by omega
  have vi : vp_in (nI i) 48 := vp_in_nI (by omega) (by omega)
  have ci : (nI i).toNatClampNeg = i := zn_cl (by omega)
  obtain ⟨_, _, c3, _, _⟩ := zs_close h e
  have eo := zn_at hk (i := o) (by omega)
  have vo : vp_in (nI o) 48 := vp_in_nI (by omega) (by omega)
  have co : (nI o).toNatClampNeg = o := zn_cl (by omega)
  refine br_f (nI_ge (b := 40000) ht (by omega)) (br_t rfl (br_f (nI_ge hi (by omega)) ⟨vi, pk_eq (kd i) 11 (fun e => absurd e (by omega)) (fun _ => ⟨vi, pk_eq (kd i) 6 (fun e => absurd e (by omega)) (fun _ => ⟨vi, pk_eq (kd i) 7 (fun e => absurd e (by omega)) (fun _ => ⟨vi, pk_eq (kd i) 8 (fun _ => zp_op hk hn hw hi h e ⟨vo, pk_eq (kd o) 7 (fun _ => ⟨vo, vo, nm_r (e' := upd yL o (yL o - 1)) (by rw [co]) ⟨vo, br_t (by rw [co, pk_us]; exact h0) ?_⟩⟩) (fun e => absurd h7 e) eo⟩) (fun e => absurd h e) ek⟩) ek⟩) ek⟩) ek⟩))
  refine ⟨vi, pk_eq (kd i) 9 (fun e => absurd e (by omega)) (fun _ => zp_none hk hi' (by omega) (by omega) ?_) ek⟩
  exact ⟨vi, pk_eq (kd i) 9 (fun e => absurd e (by omega)) (fun _ => nm_r (nI_1 tn) (by rw [nI_1 i]; exact H)) ek⟩
theorem zt_again (hw : zs_WF kd n) {o : Nat} {os : List Nat} (hk : zn_K kd yk) (hn : n ≤ 48) (hi : i < n) (ht : tn < 40000) (h : kd i = 8) (e : zs_t kd i = o :: os) (h7 : kd o = 7) (h0 : ¬ yL o - 1 ≤ 0) (H : wY_run_73 post f (nI (o + 1)) p3 0 (nI (tn + 1)) (nI n) yP yk ya yb yc yv yV yC yO (upd yL o (yL o - 1)) yR yr yw ym) : wY_run_73 post (f + 1) (nI i) p3 0 (nI tn) (nI n) yP yk ya yb yc yv yV yC yO yL yR yr yw ym := by
  obtain ⟨k11, _⟩ := hk i
  have ek := zn_at hk (i := i) (by omega)
  have hi' : i < 48 := by omega
  have vi : vp_in (nI i) 48 := vp_in_nI (by omega) (by omega)
  have ci : (nI i).toNatClampNeg = i := zn_cl (by omega)
  obtain ⟨_, _, c3, _, _⟩ := zs_close h e
  have eo := zn_at hk (i := o) (by omega)
  have vo : vp_in (nI o) 48 := vp_in_nI (by omega) (by omega)
  have co : (nI o).toNatClampNeg = o := zn_cl (by omega)
  refine br_f (nI_ge (b := 40000) ht (by omega)) (br_t rfl (br_f (nI_ge hi (by omega)) ⟨vi, pk_eq (kd i) 11 (fun e => absurd e (by omega)) (fun _ => ⟨vi, pk_eq (kd i) 6 (fun e => absurd e (by omega)) (fun _ => ⟨vi, pk_eq (kd i) 7 (fun e => absurd e (by omega)) (fun _ => ⟨vi, pk_eq (kd i) 8 (fun _ => zp_op hk hn hw hi h e ⟨vo, pk_eq (kd o) 7 (fun _ => ⟨vo, vo, nm_r (e' := upd yL o (yL o - 1)) (by rw [co]) ⟨vo, br_f (by rw [co, pk_us]; exact h0) ?_⟩⟩) (fun e => absurd h7 e) eo⟩) (fun e => absurd h e) ek⟩) ek⟩) ek⟩) ek⟩))
  exact ⟨vi, pk_eq (kd i) 9 (fun e => absurd e (by omega)) (fun _ => nm_r (nI_1 tn) (by rw [nI_1 o]; exact H)) ek⟩
theorem zt_call (hk : zn_K kd yk) (hn : n ≤ 48) (hi : i < n) (ht : tn < 40000) (hf : ∀ i, kd i = 9 ∨ kd i = 11 → ya i = nI (av i) ∧ av i ≤ 3) (h : kd i = 9) (H : wY_run_73 post f (nI (zs_pl kd av n (av i))) (nI (av i)) 0 (nI (tn + 1)) (nI n) yP yk ya yb yc yv yV yC yO yL (upd yR (av i) (nI i)) yr yw ym) : wY_run_73 post (f + 1) (nI i) p3 0 (nI tn) (nI n) yP yk ya yb yc yv yV yC yO yL yR yr yw ym := by
  obtain ⟨k11, _⟩ := hk i
  have ek := zn_at hk (i := i) (by omega)
  have hi' : i < 48 := by omega
  have vi : vp_in (nI i) 48 := vp_in_nI (by omega) (by omega)
  have ci : (nI i).toNatClampNeg = i := zn_cl (by omega)
  obtain ⟨ea, ha⟩ := hf i (Or.inl h)
  refine br_f (nI_ge (b := 40000) ht (by omega)) (br_t rfl (br_f (nI_ge hi (by omega)) ⟨vi, pk_eq (kd i) 11 (fun e => absurd e (by omega)) (fun _ => ⟨vi, pk_eq (kd i) 6 (fun e => absurd e (by omega)) (fun _ => ⟨vi, pk_eq (kd i) 7 (fun e => absurd e (by omega)) (fun _ => ⟨vi, pk_eq (kd i) 8 (fun e => absurd e (by omega)) (fun _ => ⟨vi, pk_eq (kd i) 9 (fun _ => ⟨vi, ?_⟩) (fun e => absurd h e) ek⟩) ek⟩) ek⟩) ek⟩) ek⟩))
  rw [ci, ea, zn_cl (i := av i) (by omega)]
  refine ⟨vp_in_nI (by omega) (by omega), nm_e ⟨vi, zy_place hk (fun i h => hf i (Or.inr h)) hn ha ⟨vi, pk_eq (kd i) 9 (fun _ => ⟨vi, ?_⟩) (fun e => absurd h e) (hk i).2⟩⟩⟩
  exact nm_r ea (nm_r (nI_1 tn) H)
theorem zt_ret137 {J : Int32 → Int32 → Int32 → Int32 → Int32 → Int32 → (Nat → Int32) → (Nat → Int32) → (Nat → Int32) → (Nat → Int32) → (Nat → Int32) → (Nat → Int32) → (Nat → Int32) → (Nat → Int32) → (Nat → Int32) → (Nat → Int32) → (Nat → Int32) → (Nat → Int64) → (Nat → Int64) → Prop} {s fr : Nat} {x2 : Int32} (hk : zn_K kd yk) (hf : ∀ i, kd i = 11 → ya i = nI (av i) ∧ av i ≤ 3) (hs : s ≤ 3) (hfr : fr < 48) (hc : yR s = nI fr) (H : J (nI (fr + 1)) (zl_pi (zs_p kd av (fr + 1))) 0 (nI (tn + 1)) yN yP yk ya yb yc yv yV yC yO yL yR yr yw ym) : wY_run_137 post J x2 (nI s) 0 (nI tn) yN yP yk ya yb yc yv yV yC yO yL yR yr yw ym :=
  br_t (nI_pos' (by omega)) ⟨vp_in_nI (by omega) (by omega), nm_r (e' := nI fr) (by rw [zn_cl (i := s) (by omega)]; exact hc) (zy_piece hk hf hfr (nm_r (nI_1 fr) (nm_r (nI_1 tn) H)))⟩
theorem zt_ret {s fr : Nat} (hk : zn_K kd yk) (hf : ∀ i, kd i = 11 → ya i = nI (av i) ∧ av i ≤ 3) (hn : n ≤ 48) (hi : i ≤ n) (h11 : i < n → kd i = 11) (ht : tn < 40000) (hs : s ≤ 3) (hfr : fr < 48) (hc : yR s = nI fr) (H : wY_run_73 post f (nI (fr + 1)) (zl_pi (zs_p kd av (fr + 1))) 0 (nI (tn + 1)) (nI n) yP yk ya yb yc yv yV yC yO yL yR yr yw ym) : wY_run_73 post (f + 1) (nI i) (nI s) 0 (nI tn) (nI n) yP yk ya yb yc yv yV yC yO yL yR yr yw ym := by
  have R := zt_ret137 (post := post) (J := wY_run_73 post f) (x2 := nI i) (yN := nI n) (yP := yP) (yb := yb) (yc := yc) (yv := yv) (yV := yV) (yC := yC) (yO := yO) (yL := yL) (yr := yr) (yw := yw) (ym := ym) hk hf hs hfr hc H
  by_cases g : i < n
  · have ek := zn_at hk (i := i) (by omega)
    obtain ⟨k11, _⟩ := hk i
    exact br_f (nI_ge (b := 40000) ht (by omega)) (br_t rfl (br_f (nI_ge g (by omega)) ⟨vp_in_nI (by omega) (by omega), pk_eq (kd i) 11 (fun _ => R) (fun e => absurd (h11 g) e) ek⟩))
  · exact br_f (nI_ge (b := 40000) ht (by omega)) (br_t rfl (br_t (nI_le (by omega) (by omega)) R))
theorem zt_over (hk : zn_K kd yk) (hn : n ≤ 48) (hi : i ≤ n) (h11 : i < n → kd i = 11) (ht : tn < 40000) (H : post yP (nI n, yP, yk, ya, yb, yc, yv, yV, yC, yO, yL, yR, yr, yw, ym)) : wY_run_73 post (f + 2) (nI i) (-1) 0 (nI tn) (nI n) yP yk ya yb yc yv yV yC yO yL yR yr yw ym := by
  have R : wY_run_137 post (wY_run_73 post (f + 1)) (nI i) (-1) 0 (nI tn) (nI n) yP yk ya yb yc yv yV yC yO yL yR yr yw ym := br_f zn_nneg (nm_e (br_c (fun _ => H) (fun _ => br_f (by decide) H)))
  by_cases g : i < n
  · have ek := zn_at hk (i := i) (by omega)
    obtain ⟨k11, _⟩ := hk i
    exact br_f (nI_ge (b := 40000) ht (by omega)) (br_t rfl (br_f (nI_ge g (by omega)) ⟨vp_in_nI (by omega) (by omega), pk_eq (kd i) 11 (fun _ => R) (fun e => absurd (h11 g) e) ek⟩))
  · exact br_f (nI_ge (b := 40000) ht (by omega)) (br_t rfl (br_t (nI_le (by omega) (by omega)) R))
end ZT
end
section
section ZG
/-! the machine: the words of one statement -/
variable {xL xB xC xP xO xE xK xA xR xQ : Int32} {xk xf xs xt xv xb xc xm mem bk bT bc ent cs pv : Nat → Int32} {xw xi : Nat → Int64}
variable {kd av bv cv : Nat → Nat} {n : Nat} {post : SX → Prop} {f s i : Nat}
def zf_W (kd av bv cv : Nat → Nat) (n : Nat) (mem : Nat → Int32) : Prop := ∀ j, j < n → ∀ w, w < zc_sz kd j → ¬ zc_pln kd j w → mem (zc_ad kd j + w) = nI (zc_w kd av bv cv n j w)
theorem zg_w {w x : Nat} (hW : zf_W kd av bv cv n mem) (hi : i < n) (hw : w < zc_sz kd i) (hp : ¬ zc_pln kd i w) (e : zc_w kd av bv cv n i w = x) : mem (zc_ad kd i + w) = nI x := by
  rw [hW i hi w hw hp, e]
theorem zg_np {w : Nat} (h4 : kd i = 4 → w ≠ 4) (h5 : kd i = 5 → w ≠ 5) (h11 : kd i = 11 → w ≠ 0) : ¬ zc_pln kd i w := by
  intro h
  rcases h with h | h | h
  · exact h4 h.1 h.2
  · exact h5 h.1 h.2
  · exact h11 h.1 h.2
theorem zg_set {b : Nat → Int32} (hn : n ≤ 48) (hi : i < n) (hs : s + 2 ≤ 100000) (hW : zf_W kd av bv cv n mem) (h : kd i = 0) (ha : av i ≤ 7) (hP : mem (zc_po kd i) = b i)
    (H : ∀ A, wX_execute_22 post f (nI (s + 2)) xL xB xC xP xO xE (nI (zc_ad kd (i + 1))) A 1 xQ xk xf xs xt xv xb xc xw xi xm (upd mem (800 + av i) (b i)) bk bT bc ent cs pv) : wX_execute_22 post (f + 2) (nI s) xL xB xC xP xO xE (nI (zc_ad kd i)) xA 1 xQ xk xf xs xt xv xb xc xw xi xm mem bk bT bc ent cs pv := by
  obtain ⟨l1, l2, l3⟩ := zi_lim (kd := kd) hn hi
  have sz : zc_sz kd i = 2 := by simp [zc_sz, h]
  have m0 : mem (zc_ad kd i) = nI (1024 * 1 + zc_po kd i) := zg_w hW hi (w := 0) (by omega) (zg_np (by omega) (by omega) (by omega)) (by simp [zc_w, h])
  have m1 : mem (zc_ad kd i + 1) = nI (1024 * 2 + (800 + av i)) := zg_w hW hi (w := 1) (by omega) (zg_np (by omega) (by omega) (by omega)) (by simp [zc_w, h])
  have ea : zc_ad kd (i + 1) = zc_ad kd i + 1 + 1 := by rw [zc_ad_s]; omega
  rw [ea, ← hP] at H
  exact ze_load (by omega) (by omega) (by omega) m0 (ze_store (by omega) (by omega) (by omega) m1 (H _))
theorem zg_add (hn : n ≤ 48) (hi : i < n) (hs : s + 3 ≤ 100000) (hW : zf_W kd av bv cv n mem) (h : kd i = 1) (ha : av i ≤ 7) (hb : bv i ≤ 7) (hc : cv i ≤ 7)
    (H : ∀ A, wX_execute_22 post f (nI (s + 3)) xL xB xC xP xO xE (nI (zc_ad kd (i + 1))) A 1 xQ xk xf xs xt xv xb xc xw xi xm (upd mem (800 + av i) (mem (800 + bv i) + mem (800 + cv i))) bk bT bc ent cs pv) : wX_execute_22 post (f + 3) (nI s) xL xB xC xP xO xE (nI (zc_ad kd i)) xA 1 xQ xk xf xs xt xv xb xc xw xi xm mem bk bT bc ent cs pv := by
  obtain ⟨l1, l2, l3⟩ := zi_lim (kd := kd) hn hi
  have sz : zc_sz kd i = 3 := by simp [zc_sz, h]
  have m0 : mem (zc_ad kd i) = nI (1024 * 1 + (800 + bv i)) := zg_w hW hi (w := 0) (by omega) (zg_np (by omega) (by omega) (by omega)) (by simp [zc_w, h])
  have m1 : mem (zc_ad kd i + 1) = nI (1024 * 3 + (800 + cv i)) := zg_w hW hi (w := 1) (by omega) (zg_np (by omega) (by omega) (by omega)) (by simp [zc_w, h])
  have m2 : mem (zc_ad kd i + 1 + 1) = nI (1024 * 2 + (800 + av i)) := zg_w hW hi (w := 2) (by omega) (zg_np (by omega) (by omega) (by omega)) (by simp [zc_w, h])
  have ea : zc_ad kd (i + 1) = zc_ad kd i + 1 + 1 + 1 := by rw [zc_ad_s]; omega
  rw [ea] at H
  exact ze_load (by omega) (by omega) (by omega) m0 (ze_add (by omega) (by omega) (by omega) m1 (ze_store (by omega) (by omega) (by omega) m2 (H _)))
theorem zg_sub (hn : n ≤ 48) (hi : i < n) (hs : s + 3 ≤ 100000) (hW : zf_W kd av bv cv n mem) (h : kd i = 2) (ha : av i ≤ 7) (hb : bv i ≤ 7) (hc : cv i ≤ 7)
    (H : ∀ A, wX_execute_22 post f (nI (s + 3)) xL xB xC xP xO xE (nI (zc_ad kd (i + 1))) A 1 xQ xk xf xs xt xv xb xc xw xi xm (upd mem (800 + av i) (mem (800 + bv i) - mem (800 + cv i))) bk bT bc ent cs pv) : wX_execute_22 post (f + 3) (nI s) xL xB xC xP xO xE (nI (zc_ad kd i)) xA 1 xQ xk xf xs xt xv xb xc xw xi xm mem bk bT bc ent cs pv := by
  obtain ⟨l1, l2, l3⟩ := zi_lim (kd := kd) hn hi
  have sz : zc_sz kd i = 3 := by simp [zc_sz, h]
  have m0 : mem (zc_ad kd i) = nI (1024 * 1 + (800 + bv i)) := zg_w hW hi (w := 0) (by omega) (zg_np (by omega) (by omega) (by omega)) (by simp [zc_w, h])
  have m1 : mem (zc_ad kd i + 1) = nI (1024 * 4 + (800 + cv i)) := zg_w hW hi (w := 1) (by omega) (zg_np (by omega) (by omega) (by omega)) (by simp [zc_w, h])
  have m2 : mem (zc_ad kd i + 1 + 1) = nI (1024 * 2 + (800 + av i)) := zg_w hW hi (w := 2) (by omega) (zg_np (by omega) (by omega) (by omega)) (by simp [zc_w, h])
  have ea : zc_ad kd (i + 1) = zc_ad kd i + 1 + 1 + 1 := by rw [zc_ad_s]; omega
  rw [ea] at H
  exact ze_load (by omega) (by omega) (by omega) m0 (ze_sub (by omega) (by omega) (by omega) m1 (ze_store (by omega) (by omega) (by omega) m2 (H _)))
theorem zg_mul (hn : n ≤ 48) (hi : i < n) (hs : s + 3 ≤ 100000) (hW : zf_W kd av bv cv n mem) (h : kd i = 3) (ha : av i ≤ 7) (hb : bv i ≤ 7) (hc : cv i ≤ 7)
    (H : ∀ A, wX_execute_22 post f (nI (s + 3)) xL xB xC xP xO xE (nI (zc_ad kd (i + 1))) A 1 xQ xk xf xs xt xv xb xc xw xi xm (upd mem (800 + av i) (mem (800 + bv i) * mem (800 + cv i))) bk bT bc ent cs pv) : wX_execute_22 post (f + 3) (nI s) xL xB xC xP xO xE (nI (zc_ad kd i)) xA 1 xQ xk xf xs xt xv xb xc xw xi xm mem bk bT bc ent cs pv := by
  obtain ⟨l1, l2, l3⟩ := zi_lim (kd := kd) hn hi
  have sz : zc_sz kd i = 3 := by simp [zc_sz, h]
  have m0 : mem (zc_ad kd i) = nI (1024 * 1 + (800 + bv i)) := zg_w hW hi (w := 0) (by omega) (zg_np (by omega) (by omega) (by omega)) (by simp [zc_w, h])
  have m1 : mem (zc_ad kd i + 1) = nI (1024 * 5 + (800 + cv i)) := zg_w hW hi (w := 1) (by omega) (zg_np (by omega) (by omega) (by omega)) (by simp [zc_w, h])
  have m2 : mem (zc_ad kd i + 1 + 1) = nI (1024 * 2 + (800 + av i)) := zg_w hW hi (w := 2) (by omega) (zg_np (by omega) (by omega) (by omega)) (by simp [zc_w, h])
  have ea : zc_ad kd (i + 1) = zc_ad kd i + 1 + 1 + 1 := by rw [zc_ad_s]; omega
  rw [ea] at H
  exact ze_load (by omega) (by omega) (by omega) m0 (ze_mul (by omega) (by omega) (by omega) m1 (ze_store (by omega) (by omega) (by omega) m2 (H _)))
/-- the seventh constant, the plants -/
def zf_K (mem : Nat → Int32) : Prop := mem 832 = 7 ∧ mem 833 = 1 ∧ (∀ s, s < 3 → mem (834 + s) = nI (1832 + 8 * s) ∧ mem (837 + s) = nI (2856 + 8 * s))
theorem zg_get {j : Nat} (hn : n ≤ 48) (hi : i < n) (hs : s + 6 ≤ 100000) (hW : zf_W kd av bv cv n mem) (hK : zf_K mem) (h : kd i = 4) (ha : av i ≤ 7) (hb : bv i ≤ 2) (hc : cv i ≤ 7) (hj : j < 8) (ej : mem (800 + cv i) &&& 7 = nI j)
    (H : ∀ A, wX_execute_22 post f (nI (s + 6)) xL xB xC xP xO xE (nI (zc_ad kd (i + 1))) A 1 xQ xk xf xs xt xv xb xc xw xi xm (upd (upd mem (zc_ad kd i + 4) (nI (1024 * 1 + (808 + (8 * bv i + j))))) (800 + av i) (mem (808 + (8 * bv i + j)))) bk bT bc ent cs pv) : wX_execute_22 post (f + 6) (nI s) xL xB xC xP xO xE (nI (zc_ad kd i)) xA 1 xQ xk xf xs xt xv xb xc xw xi xm mem bk bT bc ent cs pv := by
  obtain ⟨l1, l2, l3⟩ := zi_lim (kd := kd) hn hi
  have sz : zc_sz kd i = 6 := by simp [zc_sz, h]
  have m0 : mem (zc_ad kd i) = nI (1024 * 1 + (800 + cv i)) := zg_w hW hi (w := 0) (by omega) (zg_np (by omega) (by omega) (by omega)) (by simp [zc_w, h])
  have m1 : mem (zc_ad kd i + 1) = nI (1024 * 6 + 832) := zg_w hW hi (w := 1) (by omega) (zg_np (by omega) (by omega) (by omega)) (by simp [zc_w, h])
  have m2 : mem (zc_ad kd i + 1 + 1) = nI (1024 * 3 + (834 + bv i)) := zg_w hW hi (w := 2) (by omega) (zg_np (by omega) (by omega) (by omega)) (by simp [zc_w, h])
  have m3 : mem (zc_ad kd i + 1 + 1 + 1) = nI (1024 * 2 + (zc_ad kd i + 4)) := zg_w hW hi (w := 3) (by omega) (zg_np (by omega) (by omega) (by omega)) (by simp [zc_w, h])
  have m5 : mem (zc_ad kd i + 5) = nI (1024 * 2 + (800 + av i)) := zg_w hW hi (w := 5) (by omega) (zg_np (by omega) (by omega) (by omega)) (by simp [zc_w, h])
  have ea : zc_ad kd (i + 1) = zc_ad kd i + 1 + 1 + 1 + 1 + 1 + 1 := by rw [zc_ad_s]; omega
  have pl : (mem (800 + cv i) &&& mem 832) + mem (834 + bv i) = nI (1024 * 1 + (808 + (8 * bv i + j))) := by
    have e7 : mem (800 + cv i) &&& mem 832 = nI j := by rw [hK.1]; exact ej
    have e8 := (hK.2.2 (bv i) (by omega)).1
    rw [e7, e8, nI_add]
    exact zi_l (by omega)
  rw [ea] at H
  refine ze_load (by omega) (by omega) (by omega) m0 (ze_and (by omega) (by omega) (by omega) m1 (ze_add (by omega) (by omega) (by omega) m2 (ze_store (by omega) (by omega) (by omega) m3 ?_)))
  generalize hx : (mem (800 + cv i) &&& mem 832) + mem (834 + bv i) = x
  have px : x = nI (1024 * 1 + (808 + (8 * bv i + j))) := by rw [← hx]; exact pl
  refine ze_load (a := 808 + (8 * bv i + j)) (by omega) (by omega) (by omega) (by rw [zi_us (by omega)]; exact px) (ze_store (a := 800 + av i) (by omega) (by omega) (by omega) (by rw [pk_un (by omega), show zc_ad kd i + 1 + 1 + 1 + 1 + 1 = zc_ad kd i + 5 by omega]; exact m5) ?_)
  rw [pk_un (j := 808 + (8 * bv i + j)) (by omega)]
  subst px
  exact H _
theorem zg_put {j : Nat} (hn : n ≤ 48) (hi : i < n) (hs : s + 6 ≤ 100000) (hW : zf_W kd av bv cv n mem) (hK : zf_K mem) (h : kd i = 5) (ha : av i ≤ 7) (hb : bv i ≤ 2) (hc : cv i ≤ 7) (hj : j < 8) (ej : mem (800 + cv i) &&& 7 = nI j)
    (H : ∀ A, wX_execute_22 post f (nI (s + 6)) xL xB xC xP xO xE (nI (zc_ad kd (i + 1))) A 1 xQ xk xf xs xt xv xb xc xw xi xm (upd (upd mem (zc_ad kd i + 5) (nI (1024 * 2 + (808 + (8 * bv i + j))))) (808 + (8 * bv i + j)) (mem (800 + av i))) bk bT bc ent cs pv) : wX_execute_22 post (f + 6) (nI s) xL xB xC xP xO xE (nI (zc_ad kd i)) xA 1 xQ xk xf xs xt xv xb xc xw xi xm mem bk bT bc ent cs pv := by
  obtain ⟨l1, l2, l3⟩ := zi_lim (kd := kd) hn hi
  have sz : zc_sz kd i = 6 := by simp [zc_sz, h]
  have m0 : mem (zc_ad kd i) = nI (1024 * 1 + (800 + cv i)) := zg_w hW hi (w := 0) (by omega) (zg_np (by omega) (by omega) (by omega)) (by simp [zc_w, h])
  have m1 : mem (zc_ad kd i + 1) = nI (1024 * 6 + 832) := zg_w hW hi (w := 1) (by omega) (zg_np (by omega) (by omega) (by omega)) (by simp [zc_w, h])
  have m2 : mem (zc_ad kd i + 1 + 1) = nI (1024 * 3 + (837 + bv i)) := zg_w hW hi (w := 2) (by omega) (zg_np (by omega) (by omega) (by omega)) (by simp [zc_w, h])
  have m3 : mem (zc_ad kd i + 1 + 1 + 1) = nI (1024 * 2 + (zc_ad kd i + 5)) := zg_w hW hi (w := 3) (by omega) (zg_np (by omega) (by omega) (by omega)) (by simp [zc_w, h])
  have m4 : mem (zc_ad kd i + 4) = nI (1024 * 1 + (800 + av i)) := zg_w hW hi (w := 4) (by omega) (zg_np (by omega) (by omega) (by omega)) (by simp [zc_w, h])
  have ea : zc_ad kd (i + 1) = zc_ad kd i + 1 + 1 + 1 + 1 + 1 + 1 := by rw [zc_ad_s]; omega
  have pl : (mem (800 + cv i) &&& mem 832) + mem (837 + bv i) = nI (1024 * 2 + (808 + (8 * bv i + j))) := by
    have e7 : mem (800 + cv i) &&& mem 832 = nI j := by rw [hK.1]; exact ej
    have e8 := (hK.2.2 (bv i) (by omega)).2
    rw [e7, e8, nI_add]
    exact zi_l (by omega)
  rw [ea] at H
  refine ze_load (by omega) (by omega) (by omega) m0 (ze_and (by omega) (by omega) (by omega) m1 (ze_add (by omega) (by omega) (by omega) m2 (ze_store (by omega) (by omega) (by omega) m3 ?_)))
  generalize hx : (mem (800 + cv i) &&& mem 832) + mem (837 + bv i) = x
  have px : x = nI (1024 * 2 + (808 + (8 * bv i + j))) := by rw [← hx]; exact pl
  refine ze_load (a := 800 + av i) (by omega) (by omega) (by omega) (by rw [pk_un (by omega), show zc_ad kd i + 1 + 1 + 1 + 1 = zc_ad kd i + 4 by omega]; exact m4) (ze_store (a := 808 + (8 * bv i + j)) (by omega) (by omega) (by omega) (by rw [zi_us (by omega)]; exact px) ?_)
  rw [pk_un (j := 800 + av i) (by omega)]
  subst px
  exact H _
theorem zg_print (hn : n ≤ 48) (hi : i < n) (hs : s + 1 ≤ 100000) (hW : zf_W kd av bv cv n mem) (h : kd i = 10) (ha : av i ≤ 7) (h0 : ¬ xQ < 0)
    (H : wX_execute_22 post f (nI (s + 1)) xL xB xC xP xO xE (nI (zc_ad kd (i + 1))) xA 1 (xQ + 1) xk xf xs xt xv xb xc xw xi xm mem bk bT bc ent cs (zp_o xQ pv (mem (800 + av i)))) : wX_execute_22 post (f + 1) (nI s) xL xB xC xP xO xE (nI (zc_ad kd i)) xA 1 xQ xk xf xs xt xv xb xc xw xi xm mem bk bT bc ent cs pv := by
  obtain ⟨l1, l2, l3⟩ := zi_lim (kd := kd) hn hi
  have sz : zc_sz kd i = 1 := by simp [zc_sz, h]
  have m0 : mem (zc_ad kd i) = nI (1024 * 9 + (800 + av i)) := zg_w hW hi (w := 0) (by omega) (zg_np (by omega) (by omega) (by omega)) (by simp [zc_w, h])
  have ea : zc_ad kd (i + 1) = zc_ad kd i + 1 := by rw [zc_ad_s]; omega
  rw [ea] at H
  exact ze_print (by omega) (by omega) (by omega) m0 h0 H
theorem zg_if (hn : n ≤ 48) (hi : i < n) (hs : s + 2 ≤ 100000) (hW : zf_W kd av bv cv n mem) (h : kd i = 6) (ha : av i ≤ 7) (h0 : 0 < mem (800 + av i))
    (H : ∀ A, wX_execute_22 post f (nI (s + 2)) xL xB xC xP xO xE (nI (zc_ad kd (i + 1))) A 1 xQ xk xf xs xt xv xb xc xw xi xm mem bk bT bc ent cs pv) : wX_execute_22 post (f + 2) (nI s) xL xB xC xP xO xE (nI (zc_ad kd i)) xA 1 xQ xk xf xs xt xv xb xc xw xi xm mem bk bT bc ent cs pv := by
  obtain ⟨l1, l2, l3⟩ := zi_lim (kd := kd) hn hi
  have sz : zc_sz kd i = 2 := by simp [zc_sz, h]
  have m0 : mem (zc_ad kd i) = nI (1024 * 1 + (800 + av i)) := zg_w hW hi (w := 0) (by omega) (zg_np (by omega) (by omega) (by omega)) (by simp [zc_w, h])
  have m1 : mem (zc_ad kd i + 1) = nI (1024 * 8 + zc_ad kd (zs_en kd n i + 1)) := zg_w hW hi (w := 1) (by omega) (zg_np (by omega) (by omega) (by omega)) (by simp [zc_w, h])
  have ea : zc_ad kd (i + 1) = zc_ad kd i + 1 + 1 := by rw [zc_ad_s]; omega
  rw [ea] at H
  have ab : ∀ x y : Nat, x ≤ y → zc_ad kd x < 1024 ∨ 170 < y := fun x y _ => by
    have := zc_ad_le (kd := kd) x
    omega
  by_cases g : zc_ad kd (zs_en kd n i + 1) < 1024
  · exact ze_load (by omega) (by omega) (by omega) m0 (ze_pos (by omega) (by omega) g m1 h0 (H _))
  · exfalso
    obtain ⟨q1, q2, _⟩ := zs_f_spec (fun k => (zs_t kd (k + 1)).length == (zs_t kd i).length) (n - i) i
    have q3 : zs_en kd n i ≤ i + (n - i) := q2
    have := zc_ad_le (kd := kd) (zs_en kd n i + 1)
    omega
theorem zg_skip (hn : n ≤ 48) (hi : i < n) (hs : s + 2 ≤ 100000) (hW : zf_W kd av bv cv n mem) (h : kd i = 6) (ha : av i ≤ 7) (h0 : ¬ 0 < mem (800 + av i))
    (H : ∀ A, wX_execute_22 post f (nI (s + 2)) xL xB xC xP xO xE (nI (zc_ad kd (zs_en kd n i + 1))) A 1 xQ xk xf xs xt xv xb xc xw xi xm mem bk bT bc ent cs pv) : wX_execute_22 post (f + 2) (nI s) xL xB xC xP xO xE (nI (zc_ad kd i)) xA 1 xQ xk xf xs xt xv xb xc xw xi xm mem bk bT bc ent cs pv := by
  obtain ⟨l1, l2, l3⟩ := zi_lim (kd := kd) hn hi
  have sz : zc_sz kd i = 2 := by simp [zc_sz, h]
  have m0 : mem (zc_ad kd i) = nI (1024 * 1 + (800 + av i)) := zg_w hW hi (w := 0) (by omega) (zg_np (by omega) (by omega) (by omega)) (by simp [zc_w, h])
  have m1 : mem (zc_ad kd i + 1) = nI (1024 * 8 + zc_ad kd (zs_en kd n i + 1)) := zg_w hW hi (w := 1) (by omega) (zg_np (by omega) (by omega) (by omega)) (by simp [zc_w, h])
  obtain ⟨q1, q2, _⟩ := zs_f_spec (fun k => (zs_t kd (k + 1)).length == (zs_t kd i).length) (n - i) i
  have q3 : zs_en kd n i ≤ i + (n - i) := q2
  have q4 := zc_ad_le (kd := kd) (zs_en kd n i + 1)
  exact ze_load (by omega) (by omega) (by omega) m0 (ze_npos (by omega) (by omega) (by omega) m1 h0 (H _))
theorem zg_loop (hn : n ≤ 48) (hi : i < n) (hs : s + 2 ≤ 100000) (hW : zf_W kd av bv cv n mem) (h : kd i = 7) (hP : mem (zc_po kd i) = nI (av i))
    (H : ∀ A, wX_execute_22 post f (nI (s + 2)) xL xB xC xP xO xE (nI (zc_ad kd (i + 1))) A 1 xQ xk xf xs xt xv xb xc xw xi xm (upd mem (zc_po kd i + 1) (nI (av i))) bk bT bc ent cs pv) : wX_execute_22 post (f + 2) (nI s) xL xB xC xP xO xE (nI (zc_ad kd i)) xA 1 xQ xk xf xs xt xv xb xc xw xi xm mem bk bT bc ent cs pv := by
  obtain ⟨l1, l2, l3⟩ := zi_lim (kd := kd) hn hi
  have sz : zc_sz kd i = 2 := by simp [zc_sz, h]
  have m0 : mem (zc_ad kd i) = nI (1024 * 1 + zc_po kd i) := zg_w hW hi (w := 0) (by omega) (zg_np (by omega) (by omega) (by omega)) (by simp [zc_w, h])
  have m1 : mem (zc_ad kd i + 1) = nI (1024 * 2 + (zc_po kd i + 1)) := zg_w hW hi (w := 1) (by omega) (zg_np (by omega) (by omega) (by omega)) (by simp [zc_w, h])
  have ea : zc_ad kd (i + 1) = zc_ad kd i + 1 + 1 := by rw [zc_ad_s]; omega
  rw [ea, ← hP] at H
  exact ze_load (by omega) (by omega) (by omega) m0 (ze_store (by omega) (by omega) (by omega) m1 (H _))
theorem zg_back {o : Nat} {os : List Nat} (hn : n ≤ 48) (hi : i < n) (hs : s + 5 ≤ 100000) (hW : zf_W kd av bv cv n mem) (hK : zf_K mem) (h : kd i = 8) (e : zs_t kd i = o :: os) (h7 : kd o = 7) :
    ((mem (zc_po kd o + 1) - 1 ≤ 0 → ∀ A, wX_execute_22 post f (nI (s + 4)) xL xB xC xP xO xE (nI (zc_ad kd (i + 1))) A 1 xQ xk xf xs xt xv xb xc xw xi xm (upd mem (zc_po kd o + 1) (mem (zc_po kd o + 1) - 1)) bk bT bc ent cs pv) → mem (zc_po kd o + 1) - 1 ≤ 0 → wX_execute_22 post (f + 4) (nI s) xL xB xC xP xO xE (nI (zc_ad kd i)) xA 1 xQ xk xf xs xt xv xb xc xw xi xm mem bk bT bc ent cs pv)
    ∧ ((∀ A, wX_execute_22 post f (nI (s + 5)) xL xB xC xP xO xE (nI (zc_ad kd (o + 1))) A 1 xQ xk xf xs xt xv xb xc xw xi xm (upd mem (zc_po kd o + 1) (mem (zc_po kd o + 1) - 1)) bk bT bc ent cs pv) → ¬ mem (zc_po kd o + 1) - 1 ≤ 0 → wX_execute_22 post (f + 5) (nI s) xL xB xC xP xO xE (nI (zc_ad kd i)) xA 1 xQ xk xf xs xt xv xb xc xw xi xm mem bk bT bc ent cs pv) := by
  obtain ⟨_, _, c3, _, _⟩ := zs_close h e
  obtain ⟨l1, l2, l3⟩ := zi_lim (kd := kd) hn hi
  obtain ⟨k1, k2, k3⟩ := zi_lim (kd := kd) (t := o) hn (by omega)
  have sz : zc_sz kd i = 5 := by simp [zc_sz, h, e, h7]
  have m0 : mem (zc_ad kd i) = nI (1024 * 1 + (zc_po kd o + 1)) := zg_w hW hi (w := 0) (by omega) (zg_np (by omega) (by omega) (by omega)) (by simp [zc_w, h, e])
  have m1 : mem (zc_ad kd i + 1) = nI (1024 * 4 + 833) := zg_w hW hi (w := 1) (by omega) (zg_np (by omega) (by omega) (by omega)) (by simp [zc_w, h])
  have m2 : mem (zc_ad kd i + 1 + 1) = nI (1024 * 2 + (zc_po kd o + 1)) := zg_w hW hi (w := 2) (by omega) (zg_np (by omega) (by omega) (by omega)) (by simp [zc_w, h, e])
  have m3 : mem (zc_ad kd i + 1 + 1 + 1) = nI (1024 * 8 + (zc_ad kd i + 5)) := zg_w hW hi (w := 3) (by omega) (zg_np (by omega) (by omega) (by omega)) (by simp [zc_w, h])
  have m4 : mem (zc_ad kd i + 4) = nI (1024 * 7 + zc_ad kd (o + 1)) := zg_w hW hi (w := 4) (by omega) (zg_np (by omega) (by omega) (by omega)) (by simp [zc_w, h, e])
  have ea : zc_ad kd (i + 1) = zc_ad kd i + 5 := by rw [zc_ad_s]; omega
  have lo := zc_ad_mono (kd := kd) (i := o + 1) (j := i) c3
  refine ⟨fun H h0 => ?_, fun H h0 => ?_⟩
  · refine ze_load (by omega) (by omega) (by omega) m0 (ze_sub (by omega) (by omega) (by omega) m1 (ze_store (by omega) (by omega) (by omega) m2 ?_))
    rw [hK.2.1]
    refine ze_npos (a := zc_ad kd i + 5) (by omega) (by omega) (by omega) (by rw [pk_un (by omega)]; exact m3) (Int32.not_lt.mpr h0) ?_
    rw [← ea]
    exact H h0 _
  · refine ze_load (by omega) (by omega) (by omega) m0 (ze_sub (by omega) (by omega) (by omega) m1 (ze_store (by omega) (by omega) (by omega) m2 ?_))
    rw [hK.2.1]
    refine ze_pos (a := zc_ad kd i + 5) (by omega) (by omega) (by omega) (by rw [pk_un (by omega)]; exact m3) (Int32.not_le.mp h0) ?_
    exact ze_jump (a := zc_ad kd (o + 1)) (by omega) (by omega) (by omega) (by rw [pk_un (by omega), show zc_ad kd i + 1 + 1 + 1 + 1 = zc_ad kd i + 4 by omega]; exact m4) (H _)
theorem zg_call (hn : n ≤ 48) (hi : i < n) (hs : s + 3 ≤ 100000) (hW : zf_W kd av bv cv n mem) (h : kd i = 9) (hb : zs_b kd av n (av i) < n) (hP : mem (zc_po kd i) = nI (1024 * 7 + (zc_ad kd i + 2)))
    (H : ∀ A, wX_execute_22 post f (nI (s + 3)) xL xB xC xP xO xE (nI (zc_ad kd (zs_pl kd av n (av i)))) A 1 xQ xk xf xs xt xv xb xc xw xi xm (upd mem (zc_ad kd (zs_e kd n (zs_pl kd av n (av i)))) (nI (1024 * 7 + (zc_ad kd i + 2)))) bk bT bc ent cs pv) : wX_execute_22 post (f + 3) (nI s) xL xB xC xP xO xE (nI (zc_ad kd i)) xA 1 xQ xk xf xs xt xv xb xc xw xi xm mem bk bT bc ent cs pv := by
  obtain ⟨l1, l2, l3⟩ := zi_lim (kd := kd) hn hi
  obtain ⟨k1, k2, k3⟩ := zi_lim (kd := kd) (t := zs_b kd av n (av i)) hn hb
  obtain ⟨_, b2, _⟩ := zs_b_spec kd av n (av i)
  have b11 := (b2 hb).1
  have sz : zc_sz kd i = 2 := by simp [zc_sz, h]
  have szb := zc_sz11 b11
  have ep : zs_pl kd av n (av i) = zs_b kd av n (av i) + 1 := if_pos hb
  have m0 : mem (zc_ad kd i) = nI (1024 * 1 + zc_po kd i) := zg_w hW hi (w := 0) (by omega) (zg_np (by omega) (by omega) (by omega)) (by simp [zc_w, h])
  have m1 : mem (zc_ad kd i + 1) = nI (1024 * 7 + (zc_ad kd (zs_b kd av n (av i)) + 1)) := zg_w hW hi (w := 1) (by omega) (zg_np (by omega) (by omega) (by omega)) (by simp [zc_w, h])
  have m2 : mem (zc_ad kd (zs_b kd av n (av i)) + 1) = nI (1024 * 2 + zc_ad kd (zs_e kd n (zs_b kd av n (av i) + 1))) := zg_w hW hb (w := 1) (by omega) (zg_np (by omega) (by omega) (by omega)) (by simp [zc_w, b11])
  have ea : zc_ad kd (zs_b kd av n (av i) + 1) = zc_ad kd (zs_b kd av n (av i)) + 1 + 1 := by rw [zc_ad_s]; omega
  obtain ⟨_, e2, _⟩ := zs_e_spec kd n (i := zs_b kd av n (av i) + 1) hb
  have le := zc_ad_le (kd := kd) (zs_e kd n (zs_b kd av n (av i) + 1))
  rw [ep, ea, ← hP] at H
  exact ze_load (by omega) (by omega) (by omega) m0 (ze_jump (by omega) (by omega) (by omega) m1 (ze_store (by omega) (by omega) (by omega) m2 (H _)))
theorem zg_ret {fr : Nat} (hn : n ≤ 48) (hi : i ≤ n) (hfr : fr < n) (h9 : kd fr = 9) (hs : s + 1 ≤ 100000) (hm : mem (zc_ad kd i) = nI (1024 * 7 + (zc_ad kd fr + 2)))
    (H : wX_execute_22 post f (nI (s + 1)) xL xB xC xP xO xE (nI (zc_ad kd (fr + 1))) xA 1 xQ xk xf xs xt xv xb xc xw xi xm mem bk bT bc ent cs pv) : wX_execute_22 post (f + 1) (nI s) xL xB xC xP xO xE (nI (zc_ad kd i)) xA 1 xQ xk xf xs xt xv xb xc xw xi xm mem bk bT bc ent cs pv := by
  have l1 := zc_ad_le (kd := kd) i
  obtain ⟨k1, k2, k3⟩ := zi_lim (kd := kd) (t := fr) hn hfr
  have sz := zc_sz9 h9
  have ea : zc_ad kd (fr + 1) = zc_ad kd fr + 2 := by rw [zc_ad_s]; omega
  rw [ea] at H
  exact ze_jump (by omega) (by omega) (by omega) hm H
end ZG
end
section
section ZH
/-! what holds between two turns -/
variable {kd av bv cv W : Nat → Nat} {n : Nat} {b mem yV yC yL yR : Nat → Int32}
def zf_A (kd : Nat → Nat) (mem yL : Nat → Int32) (p : Nat) : Prop := ∀ o, o ∈ zs_t kd p → kd o = 7 → mem (zc_po kd o + 1) = yL o ∧ ∃ l, 1 ≤ l ∧ l ≤ 5 ∧ yL o = nI l
def zf_C (kd av : Nat → Nat) (n : Nat) (mem yL yR : Nat → Int32) : Nat → List Nat → Prop
  | p, [] => p = 0
  | p, fr :: fs => p = av fr + 1 ∧ fr < n ∧ kd fr = 9 ∧ yR (av fr) = nI fr ∧ mem (zc_ad kd (zs_e kd n (zs_pl kd av n (av fr)))) = nI (1024 * 7 + (zc_ad kd fr + 2)) ∧ zf_A kd mem yL fr ∧ zf_C kd av n mem yL yR (zs_p kd av fr) fs
def zf_E (kd : Nat → Nat) (n : Nat) (mem : Nat → Int32) : Prop := mem (zc_ad kd (zs_e kd n 0)) = 0
def zf_R (kd av bv cv : Nat → Nat) (n : Nat) (b mem yV yC : Nat → Int32) : Prop := zf_W kd av bv cv n mem ∧ zc_POOL kd av b n mem ∧ zf_K mem ∧ zf_E kd n mem ∧ (∀ v, v < 8 → mem (800 + v) = yV v) ∧ (∀ q, q < 24 → mem (808 + q) = yC q)
def zf_l (kd : Nat → Nat) (yL : Nat → Int32) (o : Nat) : Nat := if kd o = 7 then (yL o).toNatClampNeg else 1
def zf_Q (kd av W : Nat → Nat) (n : Nat) (lf : Nat → Nat) : List Nat → Nat
  | [] => 0
  | fr :: fs => 1 + zw_P kd av W n lf (fr + 1) + zf_Q kd av W n lf fs
/-- addresses that the code, the frames' counters, the pieces' ends don't use -/
def zf_n1 (kd : Nat → Nat) (n k : Nat) : Prop := (∀ j, j < n → ∀ w, w < zc_sz kd j → ¬ zc_pln kd j w → zc_ad kd j + w ≠ k) ∧ (∀ j, j < n → 0 < zc_ps kd j → zc_po kd j ≠ k) ∧ (k < 832 ∨ 840 ≤ k) ∧ zc_ad kd (zs_e kd n 0) ≠ k
def zf_n2 (kd : Nat → Nat) (n k : Nat) : Prop := ∀ o, o < n → kd o = 7 → zc_po kd o + 1 ≠ k
def zf_n3 (kd av : Nat → Nat) (n k : Nat) : Prop := ∀ s, zs_b kd av n s < n → zc_ad kd (zs_e kd n (zs_pl kd av n s)) ≠ k
theorem zh_R1 {k : Nat} {x : Int32} (h : zf_n1 kd n k) (h1 : zf_W kd av bv cv n mem) : zf_W kd av bv cv n (upd mem k x) := fun j hj w hw hp => by
  rw [pk_un (h.1 j hj w hw hp)]; exact h1 j hj w hw hp
theorem zh_R2 {k : Nat} {x : Int32} (h : zf_n1 kd n k) (h1 : zc_POOL kd av b n mem) : zc_POOL kd av b n (upd mem k x) := fun j hj hp => by
  rw [pk_un (h.2.1 j hj hp)]; exact h1 j hj hp
theorem zh_R3 {k : Nat} {x : Int32} (h : zf_n1 kd n k) (h1 : zf_K mem) : zf_K (upd mem k x) := by
  have h3 := h.2.2.1
  refine ⟨by rw [pk_un (by omega)]; exact h1.1, by rw [pk_un (by omega)]; exact h1.2.1, fun s hs => ?_⟩
  rw [pk_un (by omega), pk_un (by omega)]
  exact h1.2.2 s hs
theorem zh_R4 {k : Nat} {x : Int32} (h : zf_n1 kd n k) (h1 : zf_E kd n mem) : zf_E kd n (upd mem k x) := by
  unfold zf_E
  rw [pk_un h.2.2.2]; exact h1
theorem zh_A {k p : Nat} {x : Int32} (h : zf_n2 kd n k) (hp : p ≤ n) (h1 : zf_A kd mem yL p) : zf_A kd (upd mem k x) yL p := fun o ho h7 => by
  have lt := (zs_mem_lt ho).1
  rw [pk_un (h o (by omega) h7)]
  exact h1 o ho h7
theorem zh_C {k : Nat} {x : Int32} (hab : zl_ab kd av n n = true) (h : zf_n2 kd n k) (h3 : zf_n3 kd av n k) : ∀ fs p, zf_C kd av n mem yL yR p fs → zf_C kd av n (upd mem k x) yL yR p fs := by
  intro fs
  induction fs with
  | nil => intro p h1; exact h1
  | cons fr fs ih =>
    intro p ⟨c1, c2, c3, c4, c5, c6, c7⟩
    have hb : zs_b kd av n (av fr) < n := zl_h_b.mp ((zl_ab_iff n).mp hab fr c2 c3)
    exact ⟨c1, c2, c3, c4, by rw [pk_un (h3 _ hb)]; exact c5, zh_A h (by omega) c6, ih _ c7⟩
/-! the four kinds of addresses that are written -/
theorem zh_lim (hn : n ≤ 48) {i : Nat} (hi : i ≤ n) : zc_ad kd i ≤ 288 := by
  have := zc_ad_le (kd := kd) i
  omega
theorem zh_e_le {i : Nat} (hi : i ≤ n) : zs_e kd n i ≤ n := (zs_e_spec kd n hi).2.1
theorem zh_v1 (hn : n ≤ 48) {k : Nat} (h1 : 800 ≤ k) (h2 : k < 832) : zf_n1 kd n k := by
  refine ⟨fun j hj w hw _ => ?_, fun j hj _ => ?_, by omega, ?_⟩
  · have := zc_lim (kd := kd) hn hj hw; omega
  · have := zc_po_ge (kd := kd) j; omega
  · have := zh_lim (kd := kd) hn (zh_e_le (kd := kd) (i := 0) (Nat.zero_le n)); omega
theorem zh_v2 {k : Nat} (h2 : k < 832) : zf_n2 kd n k := fun o _ _ => by
  have := zc_po_ge (kd := kd) o; omega
theorem zh_v3 (hn : n ≤ 48) {k : Nat} (h1 : 800 ≤ k) : zf_n3 kd av n k := fun s hs => by
  have := zh_lim (kd := kd) hn (zh_e_le (kd := kd) (i := zs_pl kd av n s) (zs_pl_le s)); omega
/-- an end word is the first word of a BODY, or that behind all -/
theorem zh_end {i e w : Nat} (hi : i < n) (hk : kd i ≠ 11) (hw : w < zc_sz kd i) (he : e ≤ n) (h11 : e < n → kd e = 11) : zc_ad kd e ≠ zc_ad kd i + w := by
  intro h
  rcases Nat.lt_trichotomy e i with g | g | g
  · have L := zc_ad_lt (kd := kd) g
    have S := zc_sz11 (h11 (by omega))
    omega
  · subst g; exact hk (h11 hi)
  · have L := zc_ad_lt (kd := kd) g
    omega
theorem zh_p1 (hn : n ≤ 48) {i w : Nat} (hi : i < n) (hk : kd i ≠ 11) (hw : w < zc_sz kd i) (hp : zc_pln kd i w) : zf_n1 kd n (zc_ad kd i + w) := by
  have L := zc_lim (kd := kd) hn hi hw
  refine ⟨fun j hj w' hw' hp' h => ?_, fun j hj _ => ?_, by omega, ?_⟩
  · obtain ⟨rfl, rfl⟩ := zc_inj (kd := kd) hw' hw h
    exact hp' hp
  · have := zc_po_ge (kd := kd) j; omega
  · obtain ⟨_, e2, e3, _⟩ := zs_e_spec kd n (i := 0) (Nat.zero_le n)
    exact zh_end hi hk hw e2 e3
theorem zh_p2 (hn : n ≤ 48) {i w : Nat} (hi : i < n) (hw : w < zc_sz kd i) : zf_n2 kd n (zc_ad kd i + w) := fun o _ _ => by
  have L := zc_lim (kd := kd) hn hi hw
  have := zc_po_ge (kd := kd) o; omega
theorem zh_p3 {i w : Nat} (hi : i < n) (hk : kd i ≠ 11) (hw : w < zc_sz kd i) : zf_n3 kd av n (zc_ad kd i + w) := fun s _ => by
  obtain ⟨_, e2, e3, _⟩ := zs_e_spec kd n (i := zs_pl kd av n s) (zs_pl_le s)
  exact zh_end hi hk hw e2 e3
theorem zh_ps7 {o : Nat} (h : kd o = 7) : zc_ps kd o = 2 := by simp [zc_ps, h]
theorem zh_c1 (hn : n ≤ 48) {o : Nat} (ho : o < n) (h7 : kd o = 7) : zf_n1 kd n (zc_po kd o + 1) := by
  have G := zc_po_ge (kd := kd) o
  refine ⟨fun j hj w hw _ => ?_, fun j hj hp h => ?_, by omega, ?_⟩
  · have := zc_lim (kd := kd) hn hj hw; omega
  · have := zc_poinj (kd := kd) (j := j) (j' := o) (w := 0) (w' := 1) hp (by rw [zh_ps7 h7]; omega) h
    omega
  · have := zh_lim (kd := kd) hn (zh_e_le (kd := kd) (i := 0) (Nat.zero_le n)); omega
theorem zh_c2 {o o' : Nat} (h7 : kd o = 7) (h7' : kd o' = 7) (h : o ≠ o') : zc_po kd o + 1 ≠ zc_po kd o' + 1 := fun e =>
  h (zc_poinj (kd := kd) (w := 1) (w' := 1) (by rw [zh_ps7 h7]; omega) (by rw [zh_ps7 h7']; omega) e).1
theorem zh_Acnt {o p : Nat} {x y : Int32} (h7 : kd o = 7) (h : o ∉ zs_t kd p) (h1 : zf_A kd mem yL p) : zf_A kd (upd mem (zc_po kd o + 1) x) (upd yL o y) p := fun o' ho' h7' => by
  have ne : o' ≠ o := fun e => h (by rw [← e]; exact ho')
  rw [pk_un (zh_c2 h7' h7 ne), pk_un ne]
  exact h1 o' ho' h7'
theorem zh_Ccnt (hn : n ≤ 48) {o : Nat} {x y : Int32} (ho : o < n) (h7 : kd o = 7) : ∀ fs p, (∀ fr, fr ∈ fs → o ∉ zs_t kd fr) → zf_C kd av n mem yL yR p fs → zf_C kd av n (upd mem (zc_po kd o + 1) x) (upd yL o y) yR p fs := by
  intro fs
  induction fs with
  | nil => intro p _ h1; exact h1
  | cons fr fs ih =>
    intro p hfs ⟨c1, c2, c3, c4, c5, c6, c7⟩
    refine ⟨c1, c2, c3, c4, ?_, zh_Acnt h7 (hfs fr (List.mem_cons_self ..)) c6, ih _ (fun fr hfr => hfs fr (List.mem_cons_of_mem _ hfr)) c7⟩
    rw [pk_un]
    · exact c5
    · have := zh_lim (kd := kd) hn (zh_e_le (kd := kd) (i := zs_pl kd av n (av fr)) (zs_pl_le _))
      have := zc_po_ge (kd := kd) o
      omega
/-- the ends of two pieces differ -/
theorem zh_ends (hnd : zl_nd kd av n = true) {s s' : Nat} (hs : zs_b kd av n s < n) (hs' : zs_b kd av n s' < n) (h : s ≠ s') : zc_ad kd (zs_e kd n (zs_pl kd av n s)) ≠ zc_ad kd (zs_e kd n (zs_pl kd av n s')) := by
  have key : ∀ a c, zs_b kd av n a < n → zs_b kd av n c < n → zs_b kd av n a < zs_b kd av n c → zc_ad kd (zs_e kd n (zs_pl kd av n a)) < zc_ad kd (zs_e kd n (zs_pl kd av n c)) := by
    intro a c ha hc hlt
    obtain ⟨_, a2, _⟩ := zs_b_spec kd av n a
    obtain ⟨_, b2, _⟩ := zs_b_spec kd av n c
    have ea : zs_pl kd av n a = zs_b kd av n a + 1 := if_pos ha
    have ec : zs_pl kd av n c = zs_b kd av n c + 1 := if_pos hc
    obtain ⟨u1, u2, u3, u4⟩ := zs_e_spec kd n (i := zs_pl kd av n a) (zs_pl_le _)
    obtain ⟨v1, v2, v3, v4⟩ := zs_e_spec kd n (i := zs_pl kd av n c) (zs_pl_le _)
    have le : zs_e kd n (zs_pl kd av n a) ≤ zs_b kd av n c := by
      by_cases g : zs_e kd n (zs_pl kd av n a) ≤ zs_b kd av n c
      · exact g
      · exact absurd (b2 hc).1 (u4 _ (by omega) (by omega))
    have lt : zs_e kd n (zs_pl kd av n a) < zs_e kd n (zs_pl kd av n c) := by omega
    have L := zc_ad_lt (kd := kd) lt
    have S := zc_sz11 (u3 (by omega))
    omega
  obtain ⟨_, a2, _⟩ := zs_b_spec kd av n s
  obtain ⟨_, b2, _⟩ := zs_b_spec kd av n s'
  rcases Nat.lt_trichotomy (zs_b kd av n s) (zs_b kd av n s') with g | g | g
  · have := key s s' hs hs' g; omega
  · exfalso
    have e1 := (a2 hs).2
    have e2 := (b2 hs').2
    rw [g] at e1
    exact h (e1.symm.trans e2)
  · have := key s' s hs' hs g; omega
theorem zh_e1 (hn : n ≤ 48) {s : Nat} (hs : zs_b kd av n s < n) : zf_n1 kd n (zc_ad kd (zs_e kd n (zs_pl kd av n s))) := by
  obtain ⟨u1, u2, u3, u4⟩ := zs_e_spec kd n (i := zs_pl kd av n s) (zs_pl_le _)
  have L := zh_lim (kd := kd) hn u2
  refine ⟨fun j hj w hw hp h => ?_, fun j hj _ => ?_, by omega, ?_⟩
  · by_cases k11 : kd j = 11
    · rcases Nat.lt_trichotomy (zs_e kd n (zs_pl kd av n s)) j with g | g | g
      · have L := zc_ad_lt (kd := kd) g
        have S := zc_sz11 (u3 (by omega))
        omega
      · rw [g] at h
        exact hp (Or.inr (Or.inr ⟨k11, by omega⟩))
      · have L := zc_ad_lt (kd := kd) g
        omega
    · exact zh_end hj k11 hw u2 u3 h.symm
  · have := zc_po_ge (kd := kd) j; omega
  · obtain ⟨_, b2, _⟩ := zs_b_spec kd av n s
    have ea : zs_pl kd av n s = zs_b kd av n s + 1 := if_pos hs
    obtain ⟨v1, v2, v3, v4⟩ := zs_e_spec kd n (i := 0) (Nat.zero_le n)
    have le : zs_e kd n 0 ≤ zs_b kd av n s := by
      by_cases g : zs_e kd n 0 ≤ zs_b kd av n s
      · exact g
      · exact absurd (b2 hs).1 (v4 _ (Nat.zero_le _) (by omega))
    have lt : zs_e kd n 0 < zs_e kd n (zs_pl kd av n s) := by omega
    have L := zc_ad_lt (kd := kd) lt
    have S := zc_sz11 (v3 (by omega))
    omega
theorem zh_e2 (hn : n ≤ 48) {s : Nat} : zf_n2 kd n (zc_ad kd (zs_e kd n (zs_pl kd av n s))) := fun o _ _ => by
  have L := zh_lim (kd := kd) hn (zh_e_le (kd := kd) (i := zs_pl kd av n s) (zs_pl_le _))
  have := zc_po_ge (kd := kd) o; omega
/-- a call plants its way back: the frames above keep theirs -/
theorem zh_Ccall (hn : n ≤ 48) (hnd : zl_nd kd av n = true) (hab : zl_ab kd av n n = true) {s : Nat} {x y : Int32} (hs : zs_b kd av n s < n) : ∀ fs p, (∀ fr, fr ∈ fs → av fr ≠ s) → zf_C kd av n mem yL yR p fs → zf_C kd av n (upd mem (zc_ad kd (zs_e kd n (zs_pl kd av n s))) x) yL (upd yR s y) p fs := by
  intro fs
  induction fs with
  | nil => intro p _ h1; exact h1
  | cons fr fs ih =>
    intro p hfs ⟨c1, c2, c3, c4, c5, c6, c7⟩
    have ne := hfs fr (List.mem_cons_self ..)
    have hb : zs_b kd av n (av fr) < n := zl_h_b.mp ((zl_ab_iff n).mp hab fr c2 c3)
    exact ⟨c1, c2, c3, by rw [pk_un ne]; exact c4, by rw [pk_un (zh_ends hnd hb hs ne)]; exact c5, zh_A (zh_e2 hn) (by omega) c6, ih _ (fun fr hfr => hfs fr (List.mem_cons_of_mem _ hfr)) c7⟩
/-! ranks -/
def zh_rk (ht : Nat → Nat) (p : Nat) : Nat := if p = 0 then 4 else ht (p - 1)
theorem zh_rk_call {ht : Nat → Nat} (H : zv_H kd av n ht) (ha : ∀ i, kd i = 11 → av i ≤ 3) {j : Nat} (hj : j < n) (h9 : kd j = 9) : zh_rk ht (av j + 1) < zh_rk ht (zs_p kd av j) := by
  obtain ⟨a, c⟩ := H.2 j hj h9
  have e1 : zh_rk ht (av j + 1) = ht (av j) := if_neg (by omega)
  rw [e1]
  cases e : zs_p kd av j with
  | zero =>
    have := H.1 (av j) a
    show ht (av j) < 4
    omega
  | succ p =>
    have e2 : zh_rk ht (p + 1) = ht p := if_neg (by omega)
    rw [e2]
    have := zs_p_le (kd := kd) (av := av) ha j
    exact c p e (by omega)
theorem zh_Crk {ht : Nat → Nat} (H : zv_H kd av n ht) (ha : ∀ i, kd i = 11 → av i ≤ 3) : ∀ fs p, zf_C kd av n mem yL yR p fs → ∀ fr, fr ∈ fs → zh_rk ht p < zh_rk ht (zs_p kd av fr) ∧ zh_rk ht p ≤ zh_rk ht (av fr + 1) ∧ fr < n ∧ kd fr = 9 := by
  intro fs
  induction fs with
  | nil => intro p _ fr hfr; cases hfr
  | cons f0 fs ih =>
    intro p ⟨c1, c2, c3, c4, c5, c6, c7⟩ fr hfr
    have k := zh_rk_call H ha c2 c3
    rw [← c1] at k
    rcases List.mem_cons.mp hfr with rfl | h
    · exact ⟨k, by rw [c1]; exact Nat.le_refl _, c2, c3⟩
    · obtain ⟨i1, i2, i3, i4⟩ := ih _ c7 fr h
      exact ⟨by omega, by omega, i3, i4⟩
theorem zh_Qcong {lf lf' : Nat → Nat} : ∀ fs : List Nat, (∀ fr, fr ∈ fs → ∀ o, o ∈ zs_t kd (fr + 1) → lf o = lf' o) → zf_Q kd av W n lf fs = zf_Q kd av W n lf' fs := by
  intro fs
  induction fs with
  | nil => intro _; rfl
  | cons f0 fs ih =>
    intro h
    show 1 + zw_P kd av W n lf (f0 + 1) + zf_Q kd av W n lf fs = 1 + zw_P kd av W n lf' (f0 + 1) + zf_Q kd av W n lf' fs
    rw [zw_P_congr (h f0 (List.mem_cons_self ..)), ih (fun fr hfr => h fr (List.mem_cons_of_mem _ hfr))]
/-! variables and cells -/
theorem zh_var {a : Nat} {x : Int32} (h : ∀ v, v < 8 → mem (800 + v) = yV v) : ∀ v, v < 8 → upd mem (800 + a) x (800 + v) = upd yV a x v := fun v hv => by
  by_cases e : v = a
  · subst e; rw [pk_us, pk_us]
  · rw [pk_un (by omega), pk_un e]; exact h v hv
theorem zh_cell {a : Nat} {x : Int32} (h : ∀ q, q < 24 → mem (808 + q) = yC q) : ∀ q, q < 24 → upd mem (808 + a) x (808 + q) = upd yC a x q := fun v hv => by
  by_cases e : v = a
  · subst e; rw [pk_us, pk_us]
  · rw [pk_un (by omega), pk_un e]; exact h v hv
/-- the place behind a piece's last statement -/
theorem zh_lb (kd av : Nat → Nat) : ∀ t, (zc_lb kd t = 0 → zs_p kd av t = 0) ∧ ∀ j, zc_lb kd t = j + 1 → zs_p kd av t = av j + 1 := by
  intro t
  induction t with
  | zero => exact ⟨fun _ => rfl, fun j h => by cases h⟩
  | succ t ih =>
    by_cases h11 : kd t = 11
    · have e : zc_lb kd (t + 1) = t + 1 := if_pos h11
      refine ⟨fun h => by omega, fun j h => ?_⟩
      have : j = t := by omega
      subst this
      exact zs_p_body h11
    · have e : zc_lb kd (t + 1) = zc_lb kd t := if_neg h11
      rw [e, zs_p_oth h11]
      exact ih
theorem zh_over {i : Nat} (hi : i ≤ n) (h11 : i < n → kd i = 11) (hp : zs_p kd av i = 0) : zs_e kd n 0 = i := by
  cases q : zc_lb kd i with
  | zero =>
    rw [zs_e_same (j := i) hi (Nat.zero_le _) (fun k _ k2 => zc_lb_0 i q k k2)]
    exact zs_e_at hi h11
  | succ j =>
    have := (zh_lb kd av i).2 j q
    omega
theorem zh_ret (hnd : zl_nd kd av n = true) {i s : Nat} (hi : i ≤ n) (h11 : i < n → kd i = 11) (hp : zs_p kd av i = s + 1) : zs_e kd n (zs_pl kd av n s) = i := by
  cases q : zc_lb kd i with
  | zero =>
    have := (zh_lb kd av i).1 q
    omega
  | succ j =>
    have e1 := (zh_lb kd av i).2 j q
    obtain ⟨a1, a2, _⟩ := zc_lb_s i j q
    have e2 : av j = s := by omega
    have e3 := zl_nd_b hnd (j := j) (by omega) a2
    rw [e2] at e3
    have ep : zs_pl kd av n s = j + 1 := by
      show (if zs_b kd av n s < n then zs_b kd av n s + 1 else n) = j + 1
      rw [if_pos (by omega), e3]
    rw [ep]
    exact zc_e_last hi q h11
end ZH
end
section
section ZU
/-! the lockstep of the machine and the reference -/
variable {xL xB xC xP xO xE xK xA xR xQ : Int32} {xk xf xs xt xv xb xc xm mem bk bT bc ent cs pv : Nat → Int32} {xw xi : Nat → Int64}
variable {yN yP : Int32} {yk ya yb yc yv yV yC yO yL yR yr : Nat → Int32} {yw ym : Nat → Int64}
variable {kd av bv cv W ht : Nat → Nat} {n Φ i q tn s : Nat} {fs : List Nat}
def zf_OUT (kF sF s tn : Nat) (p2 p3 : Int32) (xL xB xC xP xO xE xK xA xR xQ : Int32) (xk xf xs xt xv xb xc : Nat → Int32) (xw xi : Nat → Int64) (xm mem bk bT bc ent cs pv : Nat → Int32) (yN yP : Int32) (yk ya yb yc yv yV yC yO yL yR yr : Nat → Int32) (yw ym : Nat → Int64) : Prop :=
  ∃ (Q : Int32) (m V C o L R : Nat → Int32), (∀ v, v < 8 → m (800 + v) = V v) ∧ (∀ q, q < 24 → m (808 + q) = C q) ∧
    (∀ (post : SX → Prop) (f : Nat), kF ≤ f → (∀ K A, post (xL, xB, xC, xP, xO, xE, K, A, 0, Q, xk, xf, xs, xt, xv, xb, xc, xw, xi, xm, m, bk, bT, bc, ent, cs, o)) → ∀ A, wX_execute_22 post f (nI s) xL xB xC xP xO xE xK A xR xQ xk xf xs xt xv xb xc xw xi xm mem bk bT bc ent cs pv) ∧
    (∀ (post : Int32 → SY → Prop) (f : Nat) (yr : Nat → Int32) (yw ym : Nat → Int64), sF ≤ f → post Q (yN, Q, yk, ya, yb, yc, yv, V, C, o, L, R, yr, yw, ym) → wY_run_73 post f p2 p3 0 (nI tn) yN yP yk ya yb yc yv yV yC yO yL yR yr yw ym)
def zf_SIM (Φ : Nat) (kd av bv cv W : Nat → Nat) (n : Nat) (xL xB xC xP xO xE xK xA xR xQ : Int32) (xk xf xs xt xv xb xc : Nat → Int32) (xw xi : Nat → Int64) (xm mem bk bT bc ent cs pv : Nat → Int32) (yN yP : Int32) (yk ya yb yc yv yV yC yO yL yR yr : Nat → Int32) (yw ym : Nat → Int64) : Prop :=
  ∀ (i : Nat) (fs : List Nat) (q tn s : Nat) (m V C o L R : Nat → Int32), i ≤ n → zf_R kd av bv cv n yb m V C → zf_A kd m L i → zf_C kd av n m L R (zs_p kd av i) fs → zw_P kd av W n (zf_l kd L) i + zf_Q kd av W n (zf_l kd L) fs < Φ → q ≤ tn → s + 6 * Φ + 2 ≤ 100000 → tn + Φ + 1 ≤ 40000 →
    zf_OUT (6 * Φ + 2) (Φ + 1) s tn (nI i) (zl_pi (zs_p kd av i)) xL xB xC xP xO xE (nI (zc_ad kd i)) xA 1 (nI q) xk xf xs xt xv xb xc xw xi xm m bk bT bc ent cs o (nI n) (nI q) yk ya yb yc yv V C o L R yr yw ym
theorem zf_go {c : Nat} {p2 p3 p2' p3' K' Q' : Int32} {m' o' V' C' L' R' : Nat → Int32} (hc : c ≤ 6)
    (h : zf_OUT (6 * Φ + 2) (Φ + 1) (s + c) (tn + 1) p2' p3' xL xB xC xP xO xE K' xA 1 Q' xk xf xs xt xv xb xc xw xi xm m' bk bT bc ent cs o' yN Q' yk ya yb yc yv V' C' o' L' R' yr yw ym)
    (hx : ∀ (post : SX → Prop) f, (∀ A, wX_execute_22 post f (nI (s + c)) xL xB xC xP xO xE K' A 1 Q' xk xf xs xt xv xb xc xw xi xm m' bk bT bc ent cs o') → ∀ A, wX_execute_22 post (f + c) (nI s) xL xB xC xP xO xE xK A xR xQ xk xf xs xt xv xb xc xw xi xm mem bk bT bc ent cs pv)
    (hy : ∀ (post : Int32 → SY → Prop) (f : Nat) (yr : Nat → Int32) (yw ym : Nat → Int64), wY_run_73 post f p2' p3' 0 (nI (tn + 1)) yN Q' yk ya yb yc yv V' C' o' L' R' yr yw ym → wY_run_73 post (f + 1) p2 p3 0 (nI tn) yN yP yk ya yb yc yv yV yC yO yL yR yr yw ym) : zf_OUT (6 * (Φ + 1) + 2) (Φ + 1 + 1) s tn p2 p3 xL xB xC xP xO xE xK xA xR xQ xk xf xs xt xv xb xc xw xi xm mem bk bT bc ent cs pv yN yP yk ya yb yc yv yV yC yO yL yR yr yw ym := by
  obtain ⟨Q, m, V, C, o, L, R, h1, h2, h3, h4⟩ := h
  refine ⟨Q, m, V, C, o, L, R, h1, h2, fun post f hf hp => ?_, fun post f r1 w1 t1 hf hp => ?_⟩
  · obtain ⟨g, rfl⟩ : ∃ g, f = g + c := ⟨f - c, by omega⟩
    exact hx post g (h3 post g (by omega) hp)
  · obtain ⟨g, rfl⟩ : ∃ g, f = g + 1 := ⟨f - 1, by omega⟩
    exact hy post g r1 w1 t1 (h4 post g r1 w1 t1 (by omega) hp)
theorem zu_next {q' : Nat} {m' V' C' o' : Nat → Int32} {c : Nat} (hw : zs_WF kd n) (IH : zf_SIM Φ kd av bv cv W n xL xB xC xP xO xE xK xA xR xQ xk xf xs xt xv xb xc xw xi xm mem bk bT bc ent cs pv yN yP yk ya yb yc yv yV yC yO yL yR yr yw ym) (hi : i < n) (h6 : kd i ≠ 6) (h7 : kd i ≠ 7) (h8 : kd i ≠ 8) (h9 : kd i ≠ 9) (h11 : kd i ≠ 11) (hc : c ≤ 6)
    (hR : zf_R kd av bv cv n yb m' V' C') (hA : zf_A kd m' yL i) (hC : zf_C kd av n m' yL yR (zs_p kd av i) fs) (hP : zw_P kd av W n (zf_l kd yL) i + zf_Q kd av W n (zf_l kd yL) fs < Φ + 1) (hq : q' ≤ tn + 1) (hs : s + 6 * (Φ + 1) + 2 ≤ 100000) (ht' : tn + (Φ + 1) + 1 ≤ 40000) :
    zf_OUT (6 * Φ + 2) (Φ + 1) (s + c) (tn + 1) (nI (i + 1)) (zl_pi (zs_p kd av i)) xL xB xC xP xO xE (nI (zc_ad kd (i + 1))) xA 1 (nI q') xk xf xs xt xv xb xc xw xi xm m' bk bT bc ent cs o' (nI n) (nI q') yk ya yb yc yv V' C' o' yL yR yr yw ym := by
  have e1 : zs_p kd av (i + 1) = zs_p kd av i := zs_p_oth h11
  have e2 : zs_t kd (i + 1) = zs_t kd i := zs_t_oth h6 h7 h8
  have P := zw_P_plain (av := av) (W := W) (lf := zf_l kd yL) hw hi h6 h7 h8 h9 h11
  have R := IH (i + 1) fs q' (tn + 1) (s + c) m' V' C' o' yL yR hi hR (by unfold zf_A; rw [e2]; exact hA) (by rw [e1]; exact hC) (by omega) hq (by omega) (by omega)
  rw [e1] at R
  exact R
theorem zu_set (hS : ∀ i, zn_S kd av bv cv yk ya yb yc xf xs xt i) (hw : zs_WF kd n) (hnd : zl_nd kd av n = true) (hab : zl_ab kd av n n = true) (hn : n ≤ 48) (HH : zv_H kd av n ht) (hfix : ∀ s, s < 4 → W s = (zw kd av W n (zs_pl kd av n s)).headD 0)
    (IH : zf_SIM Φ kd av bv cv W n xL xB xC xP xO xE xK xA xR xQ xk xf xs xt xv xb xc xw xi xm mem bk bT bc ent cs pv yN yP yk ya yb yc yv yV yC yO yL yR yr yw ym) (hi : i < n) (hR : zf_R kd av bv cv n yb mem yV yC) (hA : zf_A kd mem yL i) (hC : zf_C kd av n mem yL yR (zs_p kd av i) fs) (hP : zw_P kd av W n (zf_l kd yL) i + zf_Q kd av W n (zf_l kd yL) fs < Φ + 1) (hq : q ≤ tn) (hs : s + 6 * (Φ + 1) + 2 ≤ 100000) (ht' : tn + (Φ + 1) + 1 ≤ 40000) (h : kd i = 0) : zf_OUT (6 * (Φ + 1) + 2) (Φ + 1 + 1) s tn (nI i) (zl_pi (zs_p kd av i)) xL xB xC xP xO xE (nI (zc_ad kd i)) xA 1 (nI q) xk xf xs xt xv xb xc xw xi xm mem bk bT bc ent cs yO (nI n) (nI q) yk ya yb yc yv yV yC yO yL yR yr yw ym := by
  have hk := zn_SK hS
  obtain ⟨r1, r2, r3, r4, r5, r6⟩ := hR
  obtain ⟨⟨k11, _⟩, s1, s2, s3, s4, s5, s6, s7, s8, s9⟩ := hS i
  have ha := s4 (by omega)
  have n1 := zh_v1 (kd := kd) hn (k := 800 + av i) (by omega) (by omega)
  have n2 := zh_v2 (kd := kd) (n := n) (k := 800 + av i) (by omega)
  have n3 := zh_v3 (kd := kd) (av := av) hn (k := 800 + av i) (by omega)
  have hp : mem (zc_po kd i) = yb i := by
    rw [r2 i hi (by simp [zc_ps, h])]; simp [zc_pv, h]
  exact zf_go (c := 2) (by omega) (zu_next hw IH hi (by omega) (by omega) (by omega) (by omega) (by omega) (by omega) ⟨zh_R1 n1 r1, zh_R2 n1 r2, zh_R3 n1 r3, zh_R4 n1 r4, zh_var r5, fun q hq => by rw [pk_un (by omega)]; exact r6 q hq⟩ (zh_A n2 (by omega) hA) (zh_C hab n2 n3 _ _ hC) hP (by omega) hs ht')
    (fun post f H A => zg_set hn hi (by omega) r1 h ha hp H)
    (fun post f _ _ _ H => zt_set hk hn hi (by omega) h (s1 (by omega)) ha H)
theorem zu_add (hS : ∀ i, zn_S kd av bv cv yk ya yb yc xf xs xt i) (hw : zs_WF kd n) (hnd : zl_nd kd av n = true) (hab : zl_ab kd av n n = true) (hn : n ≤ 48) (HH : zv_H kd av n ht) (hfix : ∀ s, s < 4 → W s = (zw kd av W n (zs_pl kd av n s)).headD 0)
    (IH : zf_SIM Φ kd av bv cv W n xL xB xC xP xO xE xK xA xR xQ xk xf xs xt xv xb xc xw xi xm mem bk bT bc ent cs pv yN yP yk ya yb yc yv yV yC yO yL yR yr yw ym) (hi : i < n) (hR : zf_R kd av bv cv n yb mem yV yC) (hA : zf_A kd mem yL i) (hC : zf_C kd av n mem yL yR (zs_p kd av i) fs) (hP : zw_P kd av W n (zf_l kd yL) i + zf_Q kd av W n (zf_l kd yL) fs < Φ + 1) (hq : q ≤ tn) (hs : s + 6 * (Φ + 1) + 2 ≤ 100000) (ht' : tn + (Φ + 1) + 1 ≤ 40000) (h : kd i = 1) : zf_OUT (6 * (Φ + 1) + 2) (Φ + 1 + 1) s tn (nI i) (zl_pi (zs_p kd av i)) xL xB xC xP xO xE (nI (zc_ad kd i)) xA 1 (nI q) xk xf xs xt xv xb xc xw xi xm mem bk bT bc ent cs yO (nI n) (nI q) yk ya yb yc yv yV yC yO yL yR yr yw ym := by
  have hk := zn_SK hS
  obtain ⟨r1, r2, r3, r4, r5, r6⟩ := hR
  obtain ⟨⟨k11, _⟩, s1, s2, s3, s4, s5, s6, s7, s8, s9⟩ := hS i
  have ha := s4 (by omega)
  obtain ⟨eb, ec, hc, hb⟩ := s5 (by omega)
  have n1 := zh_v1 (kd := kd) hn (k := 800 + av i) (by omega) (by omega)
  have n2 := zh_v2 (kd := kd) (n := n) (k := 800 + av i) (by omega)
  have n3 := zh_v3 (kd := kd) (av := av) hn (k := 800 + av i) (by omega)
  exact zf_go (c := 3) (by omega) (zu_next hw IH hi (by omega) (by omega) (by omega) (by omega) (by omega) (by omega) ⟨zh_R1 n1 r1, zh_R2 n1 r2, zh_R3 n1 r3, zh_R4 n1 r4, zh_var r5, fun q hq => by rw [pk_un (by omega)]; exact r6 q hq⟩ (zh_A n2 (by omega) hA) (zh_C hab n2 n3 _ _ hC) hP (by omega) hs ht')
    (fun post f H A => zg_add hn hi (by omega) r1 h ha hb hc (fun A' => by rw [r5 _ (show bv i < 8 by omega), r5 _ (show cv i < 8 by omega)]; exact H A'))
    (fun post f _ _ _ H => zt_add hk hn hi (by omega) h (s1 (by omega)) ha eb hb ec hc H)
theorem zu_sub (hS : ∀ i, zn_S kd av bv cv yk ya yb yc xf xs xt i) (hw : zs_WF kd n) (hnd : zl_nd kd av n = true) (hab : zl_ab kd av n n = true) (hn : n ≤ 48) (HH : zv_H kd av n ht) (hfix : ∀ s, s < 4 → W s = (zw kd av W n (zs_pl kd av n s)).headD 0)
    (IH : zf_SIM Φ kd av bv cv W n xL xB xC xP xO xE xK xA xR xQ xk xf xs xt xv xb xc xw xi xm mem bk bT bc ent cs pv yN yP yk ya yb yc yv yV yC yO yL yR yr yw ym) (hi : i < n) (hR : zf_R kd av bv cv n yb mem yV yC) (hA : zf_A kd mem yL i) (hC : zf_C kd av n mem yL yR (zs_p kd av i) fs) (hP : zw_P kd av W n (zf_l kd yL) i + zf_Q kd av W n (zf_l kd yL) fs < Φ + 1) (hq : q ≤ tn) (hs : s + 6 * (Φ + 1) + 2 ≤ 100000) (ht' : tn + (Φ + 1) + 1 ≤ 40000) (h : kd i = 2) : zf_OUT (6 * (Φ + 1) + 2) (Φ + 1 + 1) s tn (nI i) (zl_pi (zs_p kd av i)) xL xB xC xP xO xE (nI (zc_ad kd i)) xA 1 (nI q) xk xf xs xt xv xb xc xw xi xm mem bk bT bc ent cs yO (nI n) (nI q) yk ya yb yc yv yV yC yO yL yR yr yw ym := by
  have hk := zn_SK hS
  obtain ⟨r1, r2, r3, r4, r5, r6⟩ := hR
  obtain ⟨⟨k11, _⟩, s1, s2, s3, s4, s5, s6, s7, s8, s9⟩ := hS i
  have ha := s4 (by omega)
  obtain ⟨eb, ec, hc, hb⟩ := s5 (by omega)
  have n1 := zh_v1 (kd := kd) hn (k := 800 + av i) (by omega) (by omega)
  have n2 := zh_v2 (kd := kd) (n := n) (k := 800 + av i) (by omega)
  have n3 := zh_v3 (kd := kd) (av := av) hn (k := 800 + av i) (by omega)
  exact zf_go (c := 3) (by omega) (zu_next hw IH hi (by omega) (by omega) (by omega) (by omega) (by omega) (by omega) ⟨zh_R1 n1 r1, zh_R2 n1 r2, zh_R3 n1 r3, zh_R4 n1 r4, zh_var r5, fun q hq => by rw [pk_un (by omega)]; exact r6 q hq⟩ (zh_A n2 (by omega) hA) (zh_C hab n2 n3 _ _ hC) hP (by omega) hs ht')
    (fun post f H A => zg_sub hn hi (by omega) r1 h ha hb hc (fun A' => by rw [r5 _ (show bv i < 8 by omega), r5 _ (show cv i < 8 by omega)]; exact H A'))
    (fun post f _ _ _ H => zt_sub hk hn hi (by omega) h (s1 (by omega)) ha eb hb ec hc H)
theorem zu_mul (hS : ∀ i, zn_S kd av bv cv yk ya yb yc xf xs xt i) (hw : zs_WF kd n) (hnd : zl_nd kd av n = true) (hab : zl_ab kd av n n = true) (hn : n ≤ 48) (HH : zv_H kd av n ht) (hfix : ∀ s, s < 4 → W s = (zw kd av W n (zs_pl kd av n s)).headD 0)
    (IH : zf_SIM Φ kd av bv cv W n xL xB xC xP xO xE xK xA xR xQ xk xf xs xt xv xb xc xw xi xm mem bk bT bc ent cs pv yN yP yk ya yb yc yv yV yC yO yL yR yr yw ym) (hi : i < n) (hR : zf_R kd av bv cv n yb mem yV yC) (hA : zf_A kd mem yL i) (hC : zf_C kd av n mem yL yR (zs_p kd av i) fs) (hP : zw_P kd av W n (zf_l kd yL) i + zf_Q kd av W n (zf_l kd yL) fs < Φ + 1) (hq : q ≤ tn) (hs : s + 6 * (Φ + 1) + 2 ≤ 100000) (ht' : tn + (Φ + 1) + 1 ≤ 40000) (h : kd i = 3) : zf_OUT (6 * (Φ + 1) + 2) (Φ + 1 + 1) s tn (nI i) (zl_pi (zs_p kd av i)) xL xB xC xP xO xE (nI (zc_ad kd i)) xA 1 (nI q) xk xf xs xt xv xb xc xw xi xm mem bk bT bc ent cs yO (nI n) (nI q) yk ya yb yc yv yV yC yO yL yR yr yw ym := by
  have hk := zn_SK hS
  obtain ⟨r1, r2, r3, r4, r5, r6⟩ := hR
  obtain ⟨⟨k11, _⟩, s1, s2, s3, s4, s5, s6, s7, s8, s9⟩ := hS i
  have ha := s4 (by omega)
  obtain ⟨eb, ec, hc, hb⟩ := s5 (by omega)
  have n1 := zh_v1 (kd := kd) hn (k := 800 + av i) (by omega) (by omega)
  have n2 := zh_v2 (kd := kd) (n := n) (k := 800 + av i) (by omega)
  have n3 := zh_v3 (kd := kd) (av := av) hn (k := 800 + av i) (by omega)
  exact zf_go (c := 3) (by omega) (zu_next hw IH hi (by omega) (by omega) (by omega) (by omega) (by omega) (by omega) ⟨zh_R1 n1 r1, zh_R2 n1 r2, zh_R3 n1 r3, zh_R4 n1 r4, zh_var r5, fun q hq => by rw [pk_un (by omega)]; exact r6 q hq⟩ (zh_A n2 (by omega) hA) (zh_C hab n2 n3 _ _ hC) hP (by omega) hs ht')
    (fun post f H A => zg_mul hn hi (by omega) r1 h ha hb hc (fun A' => by rw [r5 _ (show bv i < 8 by omega), r5 _ (show cv i < 8 by omega)]; exact H A'))
    (fun post f _ _ _ H => zt_mul hk hn hi (by omega) h (s1 (by omega)) ha eb hb ec hc H)
theorem zu_get (hS : ∀ i, zn_S kd av bv cv yk ya yb yc xf xs xt i) (hw : zs_WF kd n) (hnd : zl_nd kd av n = true) (hab : zl_ab kd av n n = true) (hn : n ≤ 48) (HH : zv_H kd av n ht) (hfix : ∀ s, s < 4 → W s = (zw kd av W n (zs_pl kd av n s)).headD 0)
    (IH : zf_SIM Φ kd av bv cv W n xL xB xC xP xO xE xK xA xR xQ xk xf xs xt xv xb xc xw xi xm mem bk bT bc ent cs pv yN yP yk ya yb yc yv yV yC yO yL yR yr yw ym) (hi : i < n) (hR : zf_R kd av bv cv n yb mem yV yC) (hA : zf_A kd mem yL i) (hC : zf_C kd av n mem yL yR (zs_p kd av i) fs) (hP : zw_P kd av W n (zf_l kd yL) i + zf_Q kd av W n (zf_l kd yL) fs < Φ + 1) (hq : q ≤ tn) (hs : s + 6 * (Φ + 1) + 2 ≤ 100000) (ht' : tn + (Φ + 1) + 1 ≤ 40000) (h : kd i = 4) : zf_OUT (6 * (Φ + 1) + 2) (Φ + 1 + 1) s tn (nI i) (zl_pi (zs_p kd av i)) xL xB xC xP xO xE (nI (zc_ad kd i)) xA 1 (nI q) xk xf xs xt xv xb xc xw xi xm mem bk bT bc ent cs yO (nI n) (nI q) yk ya yb yc yv yV yC yO yL yR yr yw ym := by
  have hk := zn_SK hS
  obtain ⟨r1, r2, r3, r4, r5, r6⟩ := hR
  obtain ⟨⟨k11, _⟩, s1, s2, s3, s4, s5, s6, s7, s8, s9⟩ := hS i
  have ha := s4 (by omega)
  obtain ⟨eb, ec, hc, _⟩ := s5 (by omega)
  have hb := s6 (by omega)
  obtain ⟨j, hj, ej, _⟩ := zp_ix (x := yV (cv i)) hb
  have n1 := zh_v1 (kd := kd) hn (k := 800 + av i) (by omega) (by omega)
  have n2 := zh_v2 (kd := kd) (n := n) (k := 800 + av i) (by omega)
  have n3 := zh_v3 (kd := kd) (av := av) hn (k := 800 + av i) (by omega)
  have sz : zc_sz kd i = 6 := by simp [zc_sz, h]
  have p1 := zh_p1 (kd := kd) hn (w := 4) hi (by omega) (by omega) (Or.inl ⟨h, rfl⟩)
  have p2 := zh_p2 (kd := kd) hn (w := 4) hi (by omega)
  have p3 := zh_p3 (kd := kd) (av := av) (w := 4) hi (by omega) (by omega)
  have L := zc_lim (kd := kd) hn hi (w := 4) (by omega)
  have v1 : ∀ x v, v < 8 → upd mem (zc_ad kd i + 4) x (800 + v) = yV v := fun x v hv => by rw [pk_un (by omega)]; exact r5 v hv
  have v2 : ∀ x q, q < 24 → upd mem (zc_ad kd i + 4) x (808 + q) = yC q := fun x v hv => by rw [pk_un (by omega)]; exact r6 v hv
  exact zf_go (c := 6) (by omega) (zu_next hw IH hi (by omega) (by omega) (by omega) (by omega) (by omega) (by omega) (m' := upd (upd mem (zc_ad kd i + 4) (nI (1024 * 1 + (808 + (8 * bv i + j))))) (800 + av i) (yC (8 * bv i + j))) ⟨zh_R1 n1 (zh_R1 p1 r1), zh_R2 n1 (zh_R2 p1 r2), zh_R3 n1 (zh_R3 p1 r3), zh_R4 n1 (zh_R4 p1 r4), zh_var (v1 _), fun q hq => by rw [pk_un (by omega)]; exact v2 _ q hq⟩ (zh_A n2 (by omega) (zh_A p2 (by omega) hA)) (zh_C hab n2 n3 _ _ (zh_C hab p2 p3 _ _ hC)) hP (by omega) hs ht')
    (fun post f H A => zg_get hn hi (by omega) r1 r3 h ha hb hc hj (by rw [r5 _ (show cv i < 8 by omega)]; exact ej) (fun A' => by rw [r6 _ (show 8 * bv i + j < 24 by omega)]; exact H A'))
    (fun post f _ _ _ H => zt_get hk hn hi (by omega) h (s1 (by omega)) ha eb hb ec hc hj ej H)
theorem zu_put (hS : ∀ i, zn_S kd av bv cv yk ya yb yc xf xs xt i) (hw : zs_WF kd n) (hnd : zl_nd kd av n = true) (hab : zl_ab kd av n n = true) (hn : n ≤ 48) (HH : zv_H kd av n ht) (hfix : ∀ s, s < 4 → W s = (zw kd av W n (zs_pl kd av n s)).headD 0)
    (IH : zf_SIM Φ kd av bv cv W n xL xB xC xP xO xE xK xA xR xQ xk xf xs xt xv xb xc xw xi xm mem bk bT bc ent cs pv yN yP yk ya yb yc yv yV yC yO yL yR yr yw ym) (hi : i < n) (hR : zf_R kd av bv cv n yb mem yV yC) (hA : zf_A kd mem yL i) (hC : zf_C kd av n mem yL yR (zs_p kd av i) fs) (hP : zw_P kd av W n (zf_l kd yL) i + zf_Q kd av W n (zf_l kd yL) fs < Φ + 1) (hq : q ≤ tn) (hs : s + 6 * (Φ + 1) + 2 ≤ 100000) (ht' : tn + (Φ + 1) + 1 ≤ 40000) (h : kd i = 5) : zf_OUT (6 * (Φ + 1) + 2) (Φ + 1 + 1) s tn (nI i) (zl_pi (zs_p kd av i)) xL xB xC xP xO xE (nI (zc_ad kd i)) xA 1 (nI q) xk xf xs xt xv xb xc xw xi xm mem bk bT bc ent cs yO (nI n) (nI q) yk ya yb yc yv yV yC yO yL yR yr yw ym := by
  have hk := zn_SK hS
  obtain ⟨r1, r2, r3, r4, r5, r6⟩ := hR
  obtain ⟨⟨k11, _⟩, s1, s2, s3, s4, s5, s6, s7, s8, s9⟩ := hS i
  have ha := s4 (by omega)
  obtain ⟨eb, ec, hc, _⟩ := s5 (by omega)
  have hb := s6 (by omega)
  obtain ⟨j, hj, ej, _⟩ := zp_ix (x := yV (cv i)) hb
  have n1 := zh_v1 (kd := kd) hn (k := 808 + (8 * bv i + j)) (by omega) (by omega)
  have n2 := zh_v2 (kd := kd) (n := n) (k := 808 + (8 * bv i + j)) (by omega)
  have n3 := zh_v3 (kd := kd) (av := av) hn (k := 808 + (8 * bv i + j)) (by omega)
  have sz : zc_sz kd i = 6 := by simp [zc_sz, h]
  have p1 := zh_p1 (kd := kd) hn (w := 5) hi (by omega) (by omega) (Or.inr (Or.inl ⟨h, rfl⟩))
  have p2 := zh_p2 (kd := kd) hn (w := 5) hi (by omega)
  have p3 := zh_p3 (kd := kd) (av := av) (w := 5) hi (by omega) (by omega)
  have L := zc_lim (kd := kd) hn hi (w := 5) (by omega)
  have v1 : ∀ x v, v < 8 → upd mem (zc_ad kd i + 5) x (800 + v) = yV v := fun x v hv => by rw [pk_un (by omega)]; exact r5 v hv
  have v2 : ∀ x q, q < 24 → upd mem (zc_ad kd i + 5) x (808 + q) = yC q := fun x v hv => by rw [pk_un (by omega)]; exact r6 v hv
  exact zf_go (c := 6) (by omega) (zu_next hw IH hi (by omega) (by omega) (by omega) (by omega) (by omega) (by omega) (m' := upd (upd mem (zc_ad kd i + 5) (nI (1024 * 2 + (808 + (8 * bv i + j))))) (808 + (8 * bv i + j)) (yV (av i))) ⟨zh_R1 n1 (zh_R1 p1 r1), zh_R2 n1 (zh_R2 p1 r2), zh_R3 n1 (zh_R3 p1 r3), zh_R4 n1 (zh_R4 p1 r4), fun v hv => by rw [pk_un (by omega)]; exact v1 _ v hv, zh_cell (v2 _)⟩ (zh_A n2 (by omega) (zh_A p2 (by omega) hA)) (zh_C hab n2 n3 _ _ (zh_C hab p2 p3 _ _ hC)) hP (by omega) hs ht')
    (fun post f H A => zg_put hn hi (by omega) r1 r3 h ha hb hc hj (by rw [r5 _ (show cv i < 8 by omega)]; exact ej) (fun A' => by rw [r5 _ (show av i < 8 by omega)]; exact H A'))
    (fun post f _ _ _ H => zt_put hk hn hi (by omega) h (s1 (by omega)) ha eb hb ec hc hj ej H)
theorem zu_print (hS : ∀ i, zn_S kd av bv cv yk ya yb yc xf xs xt i) (hw : zs_WF kd n) (hnd : zl_nd kd av n = true) (hab : zl_ab kd av n n = true) (hn : n ≤ 48) (HH : zv_H kd av n ht) (hfix : ∀ s, s < 4 → W s = (zw kd av W n (zs_pl kd av n s)).headD 0)
    (IH : zf_SIM Φ kd av bv cv W n xL xB xC xP xO xE xK xA xR xQ xk xf xs xt xv xb xc xw xi xm mem bk bT bc ent cs pv yN yP yk ya yb yc yv yV yC yO yL yR yr yw ym) (hi : i < n) (hR : zf_R kd av bv cv n yb mem yV yC) (hA : zf_A kd mem yL i) (hC : zf_C kd av n mem yL yR (zs_p kd av i) fs) (hP : zw_P kd av W n (zf_l kd yL) i + zf_Q kd av W n (zf_l kd yL) fs < Φ + 1) (hq : q ≤ tn) (hs : s + 6 * (Φ + 1) + 2 ≤ 100000) (ht' : tn + (Φ + 1) + 1 ≤ 40000) (h : kd i = 10) : zf_OUT (6 * (Φ + 1) + 2) (Φ + 1 + 1) s tn (nI i) (zl_pi (zs_p kd av i)) xL xB xC xP xO xE (nI (zc_ad kd i)) xA 1 (nI q) xk xf xs xt xv xb xc xw xi xm mem bk bT bc ent cs yO (nI n) (nI q) yk ya yb yc yv yV yC yO yL yR yr yw ym := by
  have hk := zn_SK hS
  obtain ⟨r1, r2, r3, r4, r5, r6⟩ := hR
  obtain ⟨⟨k11, _⟩, s1, s2, s3, s4, s5, s6, s7, s8, s9⟩ := hS i
  have ha := s4 (by omega)
  have h0 : ¬ nI q < 0 := nI_pos (by omega)
  have hv := r5 _ (show av i < 8 by omega)
  exact zf_go (c := 1) (by omega) (zu_next (q' := q + 1) hw IH hi (by omega) (by omega) (by omega) (by omega) (by omega) (by omega) ⟨r1, r2, r3, r4, r5, r6⟩ hA hC hP (by omega) hs ht')
    (fun post f H A => zg_print hn hi (by omega) r1 h ha h0 (by rw [nI_1 q, hv]; exact H A))
    (fun post f _ _ _ H => zt_print hk hn hi (by omega) h (s1 (by omega)) ha h0 (by rw [nI_1 q]; exact H))
theorem zu_if (hS : ∀ i, zn_S kd av bv cv yk ya yb yc xf xs xt i) (hw : zs_WF kd n) (hnd : zl_nd kd av n = true) (hab : zl_ab kd av n n = true) (hn : n ≤ 48) (HH : zv_H kd av n ht) (hfix : ∀ s, s < 4 → W s = (zw kd av W n (zs_pl kd av n s)).headD 0)
    (IH : zf_SIM Φ kd av bv cv W n xL xB xC xP xO xE xK xA xR xQ xk xf xs xt xv xb xc xw xi xm mem bk bT bc ent cs pv yN yP yk ya yb yc yv yV yC yO yL yR yr yw ym) (hi : i < n) (hR : zf_R kd av bv cv n yb mem yV yC) (hA : zf_A kd mem yL i) (hC : zf_C kd av n mem yL yR (zs_p kd av i) fs) (hP : zw_P kd av W n (zf_l kd yL) i + zf_Q kd av W n (zf_l kd yL) fs < Φ + 1) (hq : q ≤ tn) (hs : s + 6 * (Φ + 1) + 2 ≤ 100000) (ht' : tn + (Φ + 1) + 1 ≤ 40000) (h : kd i = 6) : zf_OUT (6 * (Φ + 1) + 2) (Φ + 1 + 1) s tn (nI i) (zl_pi (zs_p kd av i)) xL xB xC xP xO xE (nI (zc_ad kd i)) xA 1 (nI q) xk xf xs xt xv xb xc xw xi xm mem bk bT bc ent cs yO (nI n) (nI q) yk ya yb yc yv yV yC yO yL yR yr yw ym := by
  have hk := zn_SK hS
  obtain ⟨r1, r2, r3, r4, r5, r6⟩ := hR
  obtain ⟨⟨k11, _⟩, s1, s2, s3, s4, s5, s6, s7, s8, s9⟩ := hS i
  have ha := s4 (by omega)
  have hv := r5 _ (show av i < 8 by omega)
  by_cases h0 : 0 < yV (av i)
  · have e1 : zs_p kd av (i + 1) = zs_p kd av i := zs_p_oth (by omega)
    have e2 : zs_t kd (i + 1) = i :: zs_t kd i := zs_t_op (Or.inl h)
    have pa : zw_pa kd av i = 1 := if_neg (by omega)
    have P := zw_P_open (av := av) (W := W) (lf := zf_l kd yL) (lf' := zf_l kd yL) hw hi (Or.inl h) (by omega) (by omega) (by rw [pa]; exact if_neg (by omega)) (fun o _ => rfl)
    have R := IH (i + 1) fs q (tn + 1) (s + 2) mem yV yC yO yL yR hi ⟨r1, r2, r3, r4, r5, r6⟩ (by
      intro o ho h7
      rw [e2] at ho
      rcases List.mem_cons.mp ho with g | g
      · rw [g] at h7; omega
      · exact hA o g h7) (by rw [e1]; exact hC) (by omega) (by omega) (by omega) (by omega)
    rw [e1] at R
    exact zf_go (c := 2) (by omega) R (fun post f H A => zg_if hn hi (by omega) r1 h ha (by rw [hv]; exact h0) H) (fun post f _ _ _ H => zt_if hk hn hi (by omega) h (s1 (by omega)) ha h0 H)
  · obtain ⟨g1, g2, g3, g4, g5⟩ := zs_en_has hw hi (Or.inl h)
    have e1 : zs_p kd av (zs_en kd n i + 1) = zs_p kd av i := by
      rw [zs_p_oth (by omega)]
      exact (zs_p_mem hw (by omega) (by rw [g4]; exact List.mem_cons_self ..)).symm
    have P := zw_P_skip (av := av) (W := W) (lf := zf_l kd yL) hw hi (Or.inl h) g2 g3 g4
    have R := IH (zs_en kd n i + 1) fs q (tn + 1) (s + 2) mem yV yC yO yL yR g2 ⟨r1, r2, r3, r4, r5, r6⟩ (by unfold zf_A; rw [g5]; exact hA) (by rw [e1]; exact hC) (by omega) (by omega) (by omega) (by omega)
    rw [e1] at R
    exact zf_go (c := 2) (by omega) R (fun post f H A => zg_skip hn hi (by omega) r1 h ha (by rw [hv]; exact h0) H) (fun post f _ _ _ H => zt_skip hw hk hn hi (by omega) h (s1 (by omega)) ha h0 H)
theorem zu_out (hw : zs_WF kd n) (HH : zv_H kd av n ht) (ha : ∀ i, kd i = 11 → av i ≤ 3) {o p : Nat} (hC : zf_C kd av n mem yL yR p fs) (ho : zs_p kd av o = p) : ∀ fr, fr ∈ fs → o ∉ zs_t kd fr ∧ o ∉ zs_t kd (fr + 1) := by
  intro fr hfr
  obtain ⟨k1, _, k3, k4⟩ := zh_Crk HH ha _ _ hC fr hfr
  have key : o ∉ zs_t kd fr := by
    intro hm
    have := zs_p_mem (av := av) hw (by omega) hm
    rw [ho] at this
    rw [← this] at k1
    omega
  refine ⟨key, ?_⟩
  rw [zs_t_oth (by omega) (by omega) (by omega)]
  exact key
theorem zu_lf {o : Nat} {y : Int32} {p : Nat} (h : o ≠ p) : zf_l kd yL p = zf_l kd (upd yL o y) p := by
  unfold zf_l
  rw [pk_un (fun e => h e.symm)]
theorem zu_loop (hS : ∀ i, zn_S kd av bv cv yk ya yb yc xf xs xt i) (hw : zs_WF kd n) (hnd : zl_nd kd av n = true) (hab : zl_ab kd av n n = true) (hn : n ≤ 48) (HH : zv_H kd av n ht) (hfix : ∀ s, s < 4 → W s = (zw kd av W n (zs_pl kd av n s)).headD 0)
    (IH : zf_SIM Φ kd av bv cv W n xL xB xC xP xO xE xK xA xR xQ xk xf xs xt xv xb xc xw xi xm mem bk bT bc ent cs pv yN yP yk ya yb yc yv yV yC yO yL yR yr yw ym) (hi : i < n) (hR : zf_R kd av bv cv n yb mem yV yC) (hA : zf_A kd mem yL i) (hC : zf_C kd av n mem yL yR (zs_p kd av i) fs) (hP : zw_P kd av W n (zf_l kd yL) i + zf_Q kd av W n (zf_l kd yL) fs < Φ + 1) (hq : q ≤ tn) (hs : s + 6 * (Φ + 1) + 2 ≤ 100000) (ht' : tn + (Φ + 1) + 1 ≤ 40000) (h : kd i = 7) : zf_OUT (6 * (Φ + 1) + 2) (Φ + 1 + 1) s tn (nI i) (zl_pi (zs_p kd av i)) xL xB xC xP xO xE (nI (zc_ad kd i)) xA 1 (nI q) xk xf xs xt xv xb xc xw xi xm mem bk bT bc ent cs yO (nI n) (nI q) yk ya yb yc yv yV yC yO yL yR yr yw ym := by
  have hk := zn_SK hS
  obtain ⟨r1, r2, r3, r4, r5, r6⟩ := hR
  have h11 : ∀ i, kd i = 11 → av i ≤ 3 := fun i h => (hS i).2.2.2.1 (Or.inr h)
  obtain ⟨⟨k11, _⟩, s1, s2, s3, s4, s5, s6, s7, s8, s9⟩ := hS i
  obtain ⟨a1, a5⟩ := s2 h
  have n1 := zh_c1 (kd := kd) hn hi h
  have G := zc_po_ge (kd := kd) i
  have out := zu_out hw HH h11 (o := i) hC rfl
  have e1 : zs_p kd av (i + 1) = zs_p kd av i := zs_p_oth (by omega)
  have e2 : zs_t kd (i + 1) = i :: zs_t kd i := zs_t_op (Or.inr h)
  have ni : i ∉ zs_t kd i := fun hm => by have := (zs_mem_lt hm).1; omega
  have pa : zw_pa kd av i = av i := if_pos h
  have lfi : zf_l kd (upd yL i (nI (av i))) i = av i := by
    unfold zf_l
    rw [if_pos h, pk_us, zn_cl (by omega)]
  have hp : mem (zc_po kd i) = nI (av i) := by
    rw [r2 i hi (by simp [zc_ps, h])]; simp [zc_pv, h]
  have P := zw_P_open (av := av) (W := W) (lf := zf_l kd yL) (lf' := zf_l kd (upd yL i (nI (av i)))) hw hi (Or.inr h) (by omega) (by omega) (by rw [lfi, pa]) (fun o ho => zu_lf (fun e => ni (by rw [← e] at ho; exact ho)))
  have Qc := zh_Qcong (av := av) (W := W) (n := n) (lf := zf_l kd yL) (lf' := zf_l kd (upd yL i (nI (av i)))) fs (fun fr hfr o ho => zu_lf (fun e => (out fr hfr).2 (by rw [e]; exact ho)))
  have R := IH (i + 1) fs q (tn + 1) (s + 2) (upd mem (zc_po kd i + 1) (nI (av i))) yV yC yO (upd yL i (nI (av i))) yR hi ⟨zh_R1 n1 r1, zh_R2 n1 r2, zh_R3 n1 r3, zh_R4 n1 r4, fun v hv => by rw [pk_un (by omega)]; exact r5 v hv, fun v hv => by rw [pk_un (by omega)]; exact r6 v hv⟩ (by
      intro o ho h7
      rw [e2] at ho
      rcases List.mem_cons.mp ho with g | g
      · subst g
        rw [pk_us, pk_us]
        exact ⟨rfl, av o, a1, a5, rfl⟩
      · exact zh_Acnt h ni hA o g h7) (by rw [e1]; exact zh_Ccnt hn hi h _ _ (fun fr hfr => (out fr hfr).1) hC) (by omega) (by omega) (by omega) (by omega)
  rw [e1] at R
  exact zf_go (c := 2) (by omega) R (fun post f H A => zg_loop hn hi (by omega) r1 h hp H) (fun post f _ _ _ H => zt_loop hk hn hi (by omega) h (s1 (by omega)) H)
theorem zu_end (hS : ∀ i, zn_S kd av bv cv yk ya yb yc xf xs xt i) (hw : zs_WF kd n) (hnd : zl_nd kd av n = true) (hab : zl_ab kd av n n = true) (hn : n ≤ 48) (HH : zv_H kd av n ht) (hfix : ∀ s, s < 4 → W s = (zw kd av W n (zs_pl kd av n s)).headD 0)
    (IH : zf_SIM Φ kd av bv cv W n xL xB xC xP xO xE xK xA xR xQ xk xf xs xt xv xb xc xw xi xm mem bk bT bc ent cs pv yN yP yk ya yb yc yv yV yC yO yL yR yr yw ym) (hi : i < n) (hR : zf_R kd av bv cv n yb mem yV yC) (hA : zf_A kd mem yL i) (hC : zf_C kd av n mem yL yR (zs_p kd av i) fs) (hP : zw_P kd av W n (zf_l kd yL) i + zf_Q kd av W n (zf_l kd yL) fs < Φ + 1) (hq : q ≤ tn) (hs : s + 6 * (Φ + 1) + 2 ≤ 100000) (ht' : tn + (Φ + 1) + 1 ≤ 40000) (h : kd i = 8) : zf_OUT (6 * (Φ + 1) + 2) (Φ + 1 + 1) s tn (nI i) (zl_pi (zs_p kd av i)) xL xB xC xP xO xE (nI (zc_ad kd i)) xA 1 (nI q) xk xf xs xt xv xb xc xw xi xm mem bk bT bc ent cs yO (nI n) (nI q) yk ya yb yc yv yV yC yO yL yR yr yw ym := by
  have hk := zn_SK hS
  obtain ⟨r1, r2, r3, r4, r5, r6⟩ := hR
  have h11 : ∀ i, kd i = 11 → av i ≤ 3 := fun i h => (hS i).2.2.2.1 (Or.inr h)
  cases e : zs_t kd i with
  | nil => exact absurd e (hw.2.1 i hi h)
  | cons o os =>
    obtain ⟨c1, c2, c3, c4, c5⟩ := zs_close h e
    have mo : o ∈ zs_t kd i := by rw [e]; exact List.mem_cons_self ..
    have po : zs_p kd av o = zs_p kd av i := zs_p_mem hw (by omega) mo
    have e1 : zs_p kd av (i + 1) = zs_p kd av i := zs_p_oth (by omega)
    have sub : ∀ x, x ∈ os → x ∈ zs_t kd i := fun x hx => by rw [e]; exact List.mem_cons_of_mem _ hx
    have no : o ∉ os := fun hm => by
      rw [← c2] at hm
      have := (zs_mem_lt hm).1
      omega
    by_cases h6 : kd o = 6
    · have sz : zc_sz kd i = 0 := by simp [zc_sz, h, e, h6]
      have ea : zc_ad kd (i + 1) = zc_ad kd i := by rw [zc_ad_s, sz]; rfl
      have P := zw_P_exit (av := av) (W := W) (lf := zf_l kd yL) hi h e
      have R := IH (i + 1) fs q (tn + 1) (s + 0) mem yV yC yO yL yR hi ⟨r1, r2, r3, r4, r5, r6⟩ (by
        intro x hx h7
        rw [c1] at hx
        exact hA x (sub x hx) h7) (by rw [e1]; exact hC) (by omega) (by omega) (by omega) (by omega)
      rw [e1, ea] at R
      exact zf_go (c := 0) (by omega) R (fun post f H A => H A) (fun post f _ _ _ H => zt_endif hw hk hn hi (by omega) h e h6 H)
    · have h7 : kd o = 7 := by omega
      obtain ⟨ac, l, l1, l5, el⟩ := hA o mo h7
      have n1 := zh_c1 (kd := kd) hn (o := o) (by omega) h7
      have G := zc_po_ge (kd := kd) o
      have out := zu_out hw HH h11 (o := o) hC po
      have el1 : yL o - 1 = nI (l - 1) := by
        rw [el]
        obtain ⟨k, rfl⟩ : ∃ k, l = k + 1 := ⟨l - 1, by omega⟩
        exact nI_pred k
      have lfo : zf_l kd yL o = l := by
        unfold zf_l
        rw [if_pos h7, el, zn_cl (by omega)]
      have lfn : zf_l kd (upd yL o (yL o - 1)) o = l - 1 := by
        unfold zf_l
        rw [if_pos h7, pk_us, el1, zn_cl (by omega)]
      have Qc := zh_Qcong (av := av) (W := W) (n := n) (lf := zf_l kd yL) (lf' := zf_l kd (upd yL o (yL o - 1))) fs (fun fr hfr x hx => zu_lf (fun e => (out fr hfr).2 (by rw [e]; exact hx)))
      have RR : zf_R kd av bv cv n yb (upd mem (zc_po kd o + 1) (yL o - 1)) yV yC := ⟨zh_R1 n1 r1, zh_R2 n1 r2, zh_R3 n1 r3, zh_R4 n1 r4, fun v hv => by rw [pk_un (by omega)]; exact r5 v hv, fun v hv => by rw [pk_un (by omega)]; exact r6 v hv⟩
      have CC := zh_Ccnt (av := av) (yL := yL) (yR := yR) (mem := mem) (x := yL o - 1) (y := yL o - 1) hn (o := o) (by omega) h7 fs (zs_p kd av i) (fun fr hfr => (out fr hfr).1) hC
      by_cases h0 : l = 1
      · have z0 : yL o - 1 ≤ 0 := by rw [el1, h0]; decide
        have P := zw_P_exit (av := av) (W := W) (lf := zf_l kd (upd yL o (yL o - 1))) hi h e
        have P2 : zw_P kd av W n (zf_l kd (upd yL o (yL o - 1))) (i + 1) = zw_P kd av W n (zf_l kd yL) (i + 1) := by
          refine (zw_P_congr (fun x hx => ?_)).symm
          rw [c1] at hx
          exact zu_lf (fun e => no (by rw [e]; exact hx))
        have P3 := zw_P_exit (av := av) (W := W) (lf := zf_l kd yL) hi h e
        have R := IH (i + 1) fs q (tn + 1) (s + 4) (upd mem (zc_po kd o + 1) (yL o - 1)) yV yC yO (upd yL o (yL o - 1)) yR hi RR (by
          intro x hx hx7
          rw [c1] at hx
          have ne : x ≠ o := fun e => no (by rw [← e]; exact hx)
          rw [pk_un (zh_c2 hx7 h7 ne), pk_un ne]
          exact hA x (sub x hx) hx7) (by rw [e1]; exact CC) (by omega) (by omega) (by omega) (by omega)
        rw [e1] at R
        exact zf_go (c := 4) (by omega) R (fun post f H A => (zg_back hn hi (by omega) r1 r3 h e h7).1 (fun _ A' => by rw [ac]; exact H A') (by rw [ac]; exact z0)) (fun post f _ _ _ H => zt_exit hw hk hn hi (by omega) h e h7 z0 H)
      · have z0 : ¬ yL o - 1 ≤ 0 := by rw [el1]; exact nI_nle (by omega) (by omega)
        have e3 : zs_p kd av (o + 1) = zs_p kd av i := by rw [zs_p_oth (by omega)]; exact po
        have P := zw_P_again (av := av) (W := W) (lf := zf_l kd yL) (lf' := zf_l kd (upd yL o (yL o - 1))) hw hi h e (by omega) (by omega) (fun x hx => zu_lf (fun e => no (by rw [e]; exact hx)))
        have R := IH (o + 1) fs q (tn + 1) (s + 5) (upd mem (zc_po kd o + 1) (yL o - 1)) yV yC yO (upd yL o (yL o - 1)) yR (by omega) RR (by
          intro x hx hx7
          rw [zs_t_op c4, c2] at hx
          rcases List.mem_cons.mp hx with g | g
          · subst g
            rw [pk_us, pk_us]
            exact ⟨rfl, l - 1, by omega, by omega, el1⟩
          · have ne : x ≠ o := fun e => no (by rw [← e]; exact g)
            rw [pk_un (zh_c2 hx7 h7 ne), pk_un ne]
            exact hA x (sub x g) hx7) (by rw [e3]; exact CC) (by omega) (by omega) (by omega) (by omega)
        rw [e3] at R
        exact zf_go (c := 5) (by omega) R (fun post f H A => (zg_back hn hi (by omega) r1 r3 h e h7).2 (fun A' => by rw [ac]; exact H A') (by rw [ac]; exact z0)) (fun post f _ _ _ H => zt_again hw hk hn hi (by omega) h e h7 z0 H)
theorem zu_call (hS : ∀ i, zn_S kd av bv cv yk ya yb yc xf xs xt i) (hw : zs_WF kd n) (hnd : zl_nd kd av n = true) (hab : zl_ab kd av n n = true) (hn : n ≤ 48) (HH : zv_H kd av n ht) (hfix : ∀ s, s < 4 → W s = (zw kd av W n (zs_pl kd av n s)).headD 0)
    (IH : zf_SIM Φ kd av bv cv W n xL xB xC xP xO xE xK xA xR xQ xk xf xs xt xv xb xc xw xi xm mem bk bT bc ent cs pv yN yP yk ya yb yc yv yV yC yO yL yR yr yw ym) (hi : i < n) (hR : zf_R kd av bv cv n yb mem yV yC) (hA : zf_A kd mem yL i) (hC : zf_C kd av n mem yL yR (zs_p kd av i) fs) (hP : zw_P kd av W n (zf_l kd yL) i + zf_Q kd av W n (zf_l kd yL) fs < Φ + 1) (hq : q ≤ tn) (hs : s + 6 * (Φ + 1) + 2 ≤ 100000) (ht' : tn + (Φ + 1) + 1 ≤ 40000) (h : kd i = 9) : zf_OUT (6 * (Φ + 1) + 2) (Φ + 1 + 1) s tn (nI i) (zl_pi (zs_p kd av i)) xL xB xC xP xO xE (nI (zc_ad kd i)) xA 1 (nI q) xk xf xs xt xv xb xc xw xi xm mem bk bT bc ent cs yO (nI n) (nI q) yk ya yb yc yv yV yC yO yL yR yr yw ym := by
  have hk := zn_SK hS
  obtain ⟨r1, r2, r3, r4, r5, r6⟩ := hR
  have h11 : ∀ i, kd i = 11 → av i ≤ 3 := fun i h => (hS i).2.2.2.1 (Or.inr h)
  have hf : ∀ i, kd i = 9 ∨ kd i = 11 → ya i = nI (av i) ∧ av i ≤ 3 := fun i h => ⟨(hS i).2.1 (by omega), (hS i).2.2.2.1 h⟩
  obtain ⟨⟨k11, _⟩, s1, s2, s3, s4, s5, s6, s7, s8, s9⟩ := hS i
  have a3 := s3 (by omega)
  have hb : zs_b kd av n (av i) < n := zl_h_b.mp ((zl_ab_iff n).mp hab i hi h)
  obtain ⟨ep, e1⟩ := zs_pl_p hb
  have n1 := zh_e1 (kd := kd) (av := av) hn hb
  have n2 := zh_e2 (kd := kd) (av := av) (n := n) hn (s := av i)
  have L := zh_lim (kd := kd) hn (zh_e_le (kd := kd) (i := zs_pl kd av n (av i)) (zs_pl_le _))
  have t0 : zs_t kd (zs_pl kd av n (av i)) = [] := zs_t_pl hw _
  have hp : mem (zc_po kd i) = nI (1024 * 7 + (zc_ad kd i + 2)) := by
    rw [r2 i hi (by simp [zc_ps, h])]; simp [zc_pv, h]
  have P := zw_P_call (av := av) (W := W) (lf := zf_l kd yL) hw hi h
  have P2 : zw_P kd av W n (zf_l kd yL) (zs_pl kd av n (av i)) = 3 * W (av i) := by
    unfold zw_P
    rw [t0, hfix _ (by omega)]
    rfl
  have rk := zh_rk_call HH h11 hi h
  have R := IH (zs_pl kd av n (av i)) (i :: fs) q (tn + 1) (s + 3) (upd mem (zc_ad kd (zs_e kd n (zs_pl kd av n (av i)))) (nI (1024 * 7 + (zc_ad kd i + 2)))) yV yC yO yL (upd yR (av i) (nI i)) (zs_pl_le _) ⟨zh_R1 n1 r1, zh_R2 n1 r2, zh_R3 n1 r3, zh_R4 n1 r4, fun v hv => by rw [pk_un (by omega)]; exact r5 v hv, fun v hv => by rw [pk_un (by omega)]; exact r6 v hv⟩ (by
      intro o ho
      rw [t0] at ho
      cases ho) (by
      rw [e1]
      refine ⟨rfl, hi, h, pk_us, pk_us, zh_A n2 (by omega) hA, zh_Ccall hn hnd hab hb _ _ (fun fr hfr ee => ?_) hC⟩
      obtain ⟨_, k2, _, _⟩ := zh_Crk HH h11 _ _ hC fr hfr
      rw [ee] at k2
      omega) (by
      show zw_P kd av W n (zf_l kd yL) (zs_pl kd av n (av i)) + (1 + zw_P kd av W n (zf_l kd yL) (i + 1) + zf_Q kd av W n (zf_l kd yL) fs) < Φ
      omega) (by omega) (by omega) (by omega)
  rw [e1, zl_pi_s] at R
  exact zf_go (c := 3) (by omega) R (fun post f H A => zg_call hn hi (by omega) r1 h hb hp H) (fun post f _ _ _ H => zt_call hk hn hi (by omega) hf h H)
theorem zu_ret (hS : ∀ i, zn_S kd av bv cv yk ya yb yc xf xs xt i) (hw : zs_WF kd n) (hnd : zl_nd kd av n = true) (hab : zl_ab kd av n n = true) (hn : n ≤ 48) (HH : zv_H kd av n ht) (hfix : ∀ s, s < 4 → W s = (zw kd av W n (zs_pl kd av n s)).headD 0)
    (IH : zf_SIM Φ kd av bv cv W n xL xB xC xP xO xE xK xA xR xQ xk xf xs xt xv xb xc xw xi xm mem bk bT bc ent cs pv yN yP yk ya yb yc yv yV yC yO yL yR yr yw ym) (hi : i ≤ n) (hi11 : i < n → kd i = 11) (hR : zf_R kd av bv cv n yb mem yV yC) (hA : zf_A kd mem yL i) (hC : zf_C kd av n mem yL yR (zs_p kd av i) fs) (hP : zw_P kd av W n (zf_l kd yL) i + zf_Q kd av W n (zf_l kd yL) fs < Φ + 1) (hq : q ≤ tn) (hs : s + 6 * (Φ + 1) + 2 ≤ 100000) (ht' : tn + (Φ + 1) + 1 ≤ 40000) : zf_OUT (6 * (Φ + 1) + 2) (Φ + 1 + 1) s tn (nI i) (zl_pi (zs_p kd av i)) xL xB xC xP xO xE (nI (zc_ad kd i)) xA 1 (nI q) xk xf xs xt xv xb xc xw xi xm mem bk bT bc ent cs yO (nI n) (nI q) yk ya yb yc yv yV yC yO yL yR yr yw ym := by
  have hk := zn_SK hS
  obtain ⟨r1, r2, r3, r4, r5, r6⟩ := hR
  have hf : ∀ i, kd i = 11 → ya i = nI (av i) ∧ av i ≤ 3 := fun i h => ⟨(hS i).2.1 (by omega), (hS i).2.2.2.1 (Or.inr h)⟩
  cases fs with
  | nil =>
    have z : zs_p kd av i = 0 := hC
    have ee := zh_over hi hi11 z
    have hz : mem (zc_ad kd i) = 0 := by
      have := r4
      unfold zf_E at this
      rw [ee] at this
      exact this
    have L := zh_lim (kd := kd) hn hi
    rw [z]
    refine ⟨nI q, mem, yV, yC, yO, yL, yR, r5, r6, fun post f hf' hp A => ?_, fun post f _ _ _ hf' hp => ?_⟩
    · obtain ⟨g, rfl⟩ : ∃ g, f = g + 2 := ⟨f - 2, by omega⟩
      exact ze_stop (by omega) (by omega) hz (hp _ _)
    · obtain ⟨g, rfl⟩ : ∃ g, f = g + 2 := ⟨f - 2, by omega⟩
      exact zt_over hk hn hi hi11 (by omega) hp
  | cons fr fs =>
    obtain ⟨c1, c2, c3, c4, c5, c6, c7⟩ := hC
    have a3 := (hS fr).2.2.2.1 (Or.inl c3)
    have ee := zh_ret hnd hi hi11 c1
    rw [ee] at c5
    have e1 : zs_p kd av (fr + 1) = zs_p kd av fr := zs_p_oth (by omega)
    have e2 : zs_t kd (fr + 1) = zs_t kd fr := zs_t_oth (by omega) (by omega) (by omega)
    have R := IH (fr + 1) fs q (tn + 1) (s + 1) mem yV yC yO yL yR c2 ⟨r1, r2, r3, r4, r5, r6⟩ (by unfold zf_A; rw [e2]; exact c6) (by rw [e1]; exact c7) (by
      have hP' : zw_P kd av W n (zf_l kd yL) i + (1 + zw_P kd av W n (zf_l kd yL) (fr + 1) + zf_Q kd av W n (zf_l kd yL) fs) < Φ + 1 := hP
      omega) (by omega) (by omega) (by omega)
    rw [c1, zl_pi_s]
    exact zf_go (c := 1) (by omega) R (fun post f H A => zg_ret hn hi c2 c3 (by omega) c5 (H A)) (fun post f _ _ _ H => zt_ret hk hf hn hi hi11 (by omega) a3 (by omega) c4 H)
theorem zu_sim (hS : ∀ i, zn_S kd av bv cv yk ya yb yc xf xs xt i) (hw : zs_WF kd n) (hnd : zl_nd kd av n = true) (hab : zl_ab kd av n n = true) (hn : n ≤ 48) (HH : zv_H kd av n ht) (hfix : ∀ s, s < 4 → W s = (zw kd av W n (zs_pl kd av n s)).headD 0) : ∀ Φ, zf_SIM Φ kd av bv cv W n xL xB xC xP xO xE xK xA xR xQ xk xf xs xt xv xb xc xw xi xm mem bk bT bc ent cs pv yN yP yk ya yb yc yv yV yC yO yL yR yr yw ym := by
  intro Φ
  induction Φ with
  | zero => intro i fs q tn s m V C o L R _ _ _ _ hP; exact absurd hP (by omega)
  | succ Φ IH =>
    intro i fs q tn s m V C o L R hi hR hA hC hP hq hs ht'
    have IH' : zf_SIM Φ kd av bv cv W n xL xB xC xP xO xE xK xA xR xQ xk xf xs xt xv xb xc xw xi xm m bk bT bc ent cs o yN yP yk ya yb yc yv V C o L R yr yw ym := IH
    by_cases g : i < n
    · obtain ⟨⟨k11, _⟩, _⟩ := hS i
      have cs : kd i = 0 ∨ kd i = 1 ∨ kd i = 2 ∨ kd i = 3 ∨ kd i = 4 ∨ kd i = 5 ∨ kd i = 6 ∨ kd i = 7 ∨ kd i = 8 ∨ kd i = 9 ∨ kd i = 10 ∨ kd i = 11 := by omega
      rcases cs with h | h | h | h | h | h | h | h | h | h | h | h
      · exact zu_set hS hw hnd hab hn HH hfix IH' g hR hA hC hP hq hs ht' h
      · exact zu_add hS hw hnd hab hn HH hfix IH' g hR hA hC hP hq hs ht' h
      · exact zu_sub hS hw hnd hab hn HH hfix IH' g hR hA hC hP hq hs ht' h
      · exact zu_mul hS hw hnd hab hn HH hfix IH' g hR hA hC hP hq hs ht' h
      · exact zu_get hS hw hnd hab hn HH hfix IH' g hR hA hC hP hq hs ht' h
      · exact zu_put hS hw hnd hab hn HH hfix IH' g hR hA hC hP hq hs ht' h
      · exact zu_if hS hw hnd hab hn HH hfix IH' g hR hA hC hP hq hs ht' h
      · exact zu_loop hS hw hnd hab hn HH hfix IH' g hR hA hC hP hq hs ht' h
      · exact zu_end hS hw hnd hab hn HH hfix IH' g hR hA hC hP hq hs ht' h
      · exact zu_call hS hw hnd hab hn HH hfix IH' g hR hA hC hP hq hs ht' h
      · exact zu_print hS hw hnd hab hn HH hfix IH' g hR hA hC hP hq hs ht' h
      · exact zu_ret hS hw hnd hab hn HH hfix IH' hi (fun _ => h) hR hA hC hP hq hs ht'
    · exact zu_ret hS hw hnd hab hn HH hfix IH' hi (fun h => absurd h g) hR hA hC hP hq hs ht'
end ZU
end
section
section ZA
/-! the relation, and a run of both sides -/
variable {xL xB xC xP xO xE xK xA xR xQ : Int32} {xk xf xs xt xv xb xc xm mem bk bT bc ent cs pv : Nat → Int32} {xw xi : Nat → Int64}
variable {yN yP : Int32} {yk ya yb yc yv yV yC yO yL yR yr : Nat → Int32} {yw ym : Nat → Int64}
variable {kd av bv cv : Nat → Nat} {n : Nat}
/-- the same source, the same outputs; the component's memory holds the reference's variables and cells -/
def zz_F (kd av bv cv : Nat → Nat) (n : Nat) (xL xB xC xP xO xE xK xA xR xQ : Int32) (xk xf xs xt xv xb xc : Nat → Int32) (xw xi : Nat → Int64) (xm mem bk bT bc ent cs pv : Nat → Int32) (yN yP : Int32) (yk ya yb yc yv yV yC yO yL yR yr : Nat → Int32) (yw ym : Nat → Int64) : Prop := xL = nI n ∧ yN = nI n ∧ xQ = yP ∧ xk = yk ∧ xv = yv ∧ pv = yO ∧ n ≤ 48 ∧ (∀ i, zn_S kd av bv cv yk ya yb yc xf xs xt i) ∧ (∀ v, v < 8 → mem (800 + v) = yV v) ∧ (∀ q, q < 24 → mem (808 + q) = yC q)
def i_Rel (k : Nat) (u : SX) (v : SY) : Prop := match u, v with
  | (xL, xB, xC, xP, xO, xE, xK, xA, xR, xQ, xk, xf, xs, xt, xv, xb, xc, xw, xi, xm, mem, bk, bT, bc, ent, cs, pv), (yN, yP, yk, ya, yb, yc, yv, yV, yC, yO, yL, yR, yr, yw, ym) => ∃ (n : Nat) (kd av bv cv : Nat → Nat), zz_F kd av bv cv n xL xB xC xP xO xE xK xA xR xQ xk xf xs xt xv xb xc xw xi xm mem bk bT bc ent cs pv yN yP yk ya yb yc yv yV yC yO yL yR yr yw ym
theorem i_up {k : Nat} {u : SX} {v : SY} (h : i_Rel k u v) : i_Rel (k + 5) u v := h
theorem zz_in {k : Nat} (hn : n ≤ 48) (hS : ∀ i, zn_S kd av bv cv yk ya yb yc xf xs xt i) (h1 : ∀ v, v < 8 → mem (800 + v) = yV v) (h2 : ∀ q, q < 24 → mem (808 + q) = yC q) : i_Rel k (nI n, xB, xC, xP, xO, xE, xK, xA, xR, yP, yk, xf, xs, xt, yv, xb, xc, xw, xi, xm, mem, bk, bT, bc, ent, cs, yO) (nI n, yP, yk, ya, yb, yc, yv, yV, yC, yO, yL, yR, yr, yw, ym) :=
  ⟨n, kd, av, bv, cv, rfl, rfl, rfl, rfl, rfl, rfl, hn, hS, h1, h2⟩
theorem zz_el {P : SX → SY → Prop} (h : ∀ (n : Nat) (kd av bv cv : Nat → Nat) (xL xB xC xP xO xE xK xA xR xQ : Int32) (xk xf xs xt xv xb xc : Nat → Int32) (xw xi : Nat → Int64) (xm mem bk bT bc ent cs pv : Nat → Int32) (yN yP : Int32) (yk ya yb yc yv yV yC yO yL yR yr : Nat → Int32) (yw ym : Nat → Int64), n ≤ 48 → (∀ i, zn_S kd av bv cv yk ya yb yc xf xs xt i) → (∀ v, v < 8 → mem (800 + v) = yV v) → (∀ q, q < 24 → mem (808 + q) = yC q) → P (nI n, xB, xC, xP, xO, xE, xK, xA, xR, yP, yk, xf, xs, xt, yv, xb, xc, xw, xi, xm, mem, bk, bT, bc, ent, cs, yO) (nI n, yP, yk, ya, yb, yc, yv, yV, yC, yO, yL, yR, yr, yw, ym)) {k : Nat} {u : SX} {v : SY} (I : i_Rel k u v) : P u v := by
  obtain ⟨xL, xB, xC, xP, xO, xE, xK, xA, xR, xQ, xk, xf, xs, xt, xv, xb, xc, xw, xi, xm, mem, bk, bT, bc, ent, cs, pv⟩ := u
  obtain ⟨yN, yP, yk, ya, yb, yc, yv, yV, yC, yO, yL, yR, yr, yw, ym⟩ := v
  obtain ⟨n, kd, av, bv, cv, e1, e2, e3, e4, e5, e6, h1, h2, h3, h4⟩ := I
  subst e1; subst e2; subst e3; subst e4; subst e5; subst e6
  exact h n kd av bv cv (nI n) xB xC xP xO xE xK xA xR xQ xk xf xs xt xv xb xc xw xi xm mem bk bT bc ent cs pv (nI n) xQ xk ya yb yc xv yV yC pv yL yR yr yw ym h1 h2 h3 h4
/-! what the check has shown gives the heights, the weights -/
theorem za_H (hG : zq_G kd av n) (h9 : ∀ i, kd i = 9 → av i ≤ 3) : zv_H kd av n (zr_h (zr_x (zr_D kd av n) 4)) := by
  obtain ⟨_, _, _, g4, _⟩ := hG
  have hI := zr_dg_f 4 g4
  refine ⟨fun s hs => zr_h_le hI hs, fun j hj hk => ?_⟩
  have a := h9 j hk
  refine ⟨by omega, fun s hs hs4 => zr_h_lt zr_x_T hI hs4 (by omega) (zr_x_mono (zr_D_iff n ⟨j, hj, hk, hs, rfl⟩))⟩
theorem za_W (hG : zq_G kd av n) (h9 : ∀ i, kd i = 9 → av i ≤ 3) (h7 : ∀ i, kd i = 7 → av i ≤ 5) (hn : n ≤ 48) : (zw kd av (zv kd av n 16) n 0).headD 0 ≤ 3000 := by
  have HH := za_H hG h9
  have B := zv_main hG.1 hn (fun i _ h => h7 i h) HH
  have g5 := hG.2.2.2.2
  exact (pk_lLE B (by omega)).mp g5
/-! the reference's start -/
def za_z (k : Nat) (a : Nat → Int32) : Nat → Int32 := fun q => if q < k then 0 else a q
def za_c (k : Nat) (b a : Nat → Int32) : Nat → Int32 := fun q => if q < k then b q else a q
theorem za_z0 (a : Nat → Int32) : za_z 0 a = a := by
  funext q; exact if_neg (by omega)
theorem za_c0 (b a : Nat → Int32) : za_c 0 b a = a := by
  funext q; exact if_neg (by omega)
theorem za_zs (k : Nat) (a : Nat → Int32) : upd (za_z k a) k 0 = za_z (k + 1) a := by
  funext q
  unfold upd za_z
  by_cases h : q = k
  · rw [if_pos h, if_pos (by omega)]
  · rw [if_neg h]
    by_cases g : q < k
    · rw [if_pos g, if_pos (by omega)]
    · rw [if_neg g, if_neg (by omega)]
theorem za_cs (k : Nat) (b a : Nat → Int32) : upd (za_c k b a) k (b k) = za_c (k + 1) b a := by
  funext q
  unfold upd za_c
  by_cases h : q = k
  · rw [if_pos h, if_pos (by omega), h]
  · rw [if_neg h]
    by_cases g : q < k
    · rw [if_pos g, if_pos (by omega)]
    · rw [if_neg g, if_neg (by omega)]
theorem za_39 {post : Int32 → SY → Prop} (H : ∃ f, wY_run_73 post f 0 (-1) 0 0 yN 0 yk ya yb yc yv yV (za_z 24 yC) yO yL yR yr yw ym) : ∀ d i, i + d = 24 → ∀ f, d < f → wY_run_39 post yN yP f (nI i) yk ya yb yc yv yV (za_z i yC) yO yL yR yr yw ym := by
  intro d
  induction d with
  | zero =>
    intro i hi f hff
    obtain ⟨f, rfl⟩ : ∃ g, f = g + 1 := ⟨f - 1, by omega⟩
    have e : i = 24 := by omega
    subst e
    exact br_t (nI_le (Nat.le_refl _) (by omega)) H
  | succ d ih =>
    intro i hi f hff
    obtain ⟨f, rfl⟩ : ∃ g, f = g + 1 := ⟨f - 1, by omega⟩
    exact br_f (nI_ge (b := 24) (by omega) (by omega)) ⟨vp_in_nI (by omega) (by omega), nm_r (e' := za_z (i + 1) yC) (by rw [zn_cl (by omega), za_zs]) (nm_r (nI_1 i) (ih (i + 1) (by omega) f (by omega)))⟩
theorem za_13 {post : Int32 → SY → Prop} (H : ∃ f, wY_run_73 post f 0 (-1) 0 0 yN 0 yk ya yb yc yv (za_c 8 yv yV) (za_z 24 yC) yO yL yR yr yw ym) : ∀ d i, i + d = 8 → ∀ f, d < f → wY_run_13 post yN yP f (nI i) yk ya yb yc yv (za_c i yv yV) yC yO yL yR yr yw ym := by
  intro d
  induction d with
  | zero =>
    intro i hi f hff
    obtain ⟨f, rfl⟩ : ∃ g, f = g + 1 := ⟨f - 1, by omega⟩
    have e : i = 8 := by omega
    subst e
    have := za_39 (yP := yP) H 24 0 (by omega) 25 (by omega)
    rw [za_z0] at this
    exact br_t (nI_le (Nat.le_refl _) (by omega)) ⟨25, this⟩
  | succ d ih =>
    intro i hi f hff
    obtain ⟨f, rfl⟩ : ∃ g, f = g + 1 := ⟨f - 1, by omega⟩
    exact br_f (nI_ge (b := 8) (by omega) (by omega)) ⟨vp_in_nI (by omega) (by omega), vp_in_nI (by omega) (by omega), nm_r (e' := za_c (i + 1) yv yV) (by rw [zn_cl (by omega), za_cs]) (nm_r (nI_1 i) (ih (i + 1) (by omega) f (by omega)))⟩
/-- a run after a good check: the outcome of both sides -/
theorem za_go {hi : Nat → Int32} (hS : ∀ i, zn_S kd av bv cv yk ya yb yc xf xs xt i) (hn : n ≤ 48) (hG : zq_G kd av n) (hh : zf_hi yv hi) (hM : zf_M kd av bv cv n yb hi mem) :
    zf_OUT 54008 9002 0 0 (nI 0) (zl_pi 0) (nI n) xB xC xP xO xE (nI 0) xA 1 (nI 0) xk xf xs xt xv xb xc xw xi xm mem bk bT bc ent cs yO (nI n) (nI 0) yk ya yb yc yv (za_c 8 yv yV) (za_z 24 yC) yO yL yR yr yw ym := by
  have h9 : ∀ i, kd i = 9 → av i ≤ 3 := fun i h => (hS i).2.2.2.1 (Or.inl h)
  have h7 : ∀ i, kd i = 7 → av i ≤ 5 := fun i h => ((hS i).2.2.1 h).2
  have HH := za_H hG h9
  have w3 := za_W hG h9 h7 hn
  obtain ⟨m1, m2, m3, m4, m5⟩ := hM
  obtain ⟨a1, a2, a3, a4, a5⟩ := hh
  refine zu_sim (xL := nI n) (xB := xB) (xC := xC) (xP := xP) (xO := xO) (xE := xE) (xK := nI 0) (xA := xA) (xR := 1) (xQ := nI 0) (xk := xk) (xv := xv) (xb := xb) (xc := xc) (xw := xw) (xi := xi) (xm := xm) (mem := mem) (bk := bk) (bT := bT) (bc := bc) (ent := ent) (cs := cs) (pv := yO) (yN := nI n) (yP := nI 0) (yv := yv) (yV := yV) (yC := yC) (yO := yO) (yL := yL) (yR := yR) (yr := yr) (yw := yw) (ym := ym) (W := zv kd av n 16) hS hG.1 hG.2.1 hG.2.2.1 hn HH (fun s hs => zv_fix HH hs) 9001 0 [] 0 0 0 mem (za_c 8 yv yV) (za_z 24 yC) yO yL yR (Nat.zero_le _) ⟨m1, m2, ⟨?_, ?_, fun s hs => ?_⟩, ?_, fun v hv => ?_, fun q hq => ?_⟩ (fun o ho => by cases ho) rfl ?_ (Nat.le_refl _) (by omega) (by omega)
  · rw [m5 832 (by omega) (by omega)]; exact a3
  · rw [m5 833 (by omega) (by omega)]; exact a4
  · rw [m5 (834 + s) (by omega) (by omega), m5 (837 + s) (by omega) (by omega)]; exact a5 s hs
  · obtain ⟨_, e2, e3, _⟩ := zs_e_spec kd n (i := 0) (Nat.zero_le n)
    by_cases g : zs_e kd n 0 < n
    · exact m3 _ g (e3 g)
    · have e : zs_e kd n 0 = n := by omega
      unfold zf_E
      rw [e]; exact m4
  · rw [m5 (800 + v) (by omega) (by omega), a1 v hv]; exact (if_pos hv).symm
  · rw [m5 (808 + q) (by omega) (by omega), a2 q hq]; exact (if_pos hq).symm
  · show 3 * (zw kd av (zv kd av n 16) n 0).headD 0 + 0 < 9001
    omega
theorem i_vc_run {k : Nat} {u : SX} {v : SY} (I : i_Rel k u v) (hk : k + 5 ≤ 2560) : wpX_run (fun r u' => wpY_run (fun r' v' => r' = r ∧ i_Rel (k + 5) u' v') v) u := by
  refine zz_el (P := fun u v => wpX_run (fun r u' => wpY_run (fun r' v' => r' = r ∧ i_Rel (k + 5) u' v') v) u) ?_ I
  intro n kd av bv cv xL xB xC xP xO xE xK xA xR xQ xk xf xs xt xv xb xc xw xi xm mem bk bT bc ent cs pv yN yP yk ya yb yc yv yV yC yO yL yR yr yw ym hn hS h1 h2
  have hK := zn_SK hS
  have f7 : ∀ i, kd i = 7 → xf i = nI (av i) ∧ av i ≤ 5 := fun i h => ⟨by rw [(hS i).2.2.2.2.2.2.2.2.1 (by omega)]; exact (hS i).2.1 (by omega), ((hS i).2.2.1 h).2⟩
  have f9 : ∀ i, kd i = 9 ∨ kd i = 11 → xf i = nI (av i) ∧ av i ≤ 3 := fun i h => ⟨by rw [(hS i).2.2.2.2.2.2.2.2.1 (by omega)]; exact (hS i).2.1 (by omega), (hS i).2.2.2.1 h⟩
  have g7 : ∀ i, kd i = 7 → ya i = nI (av i) ∧ av i ≤ 5 := fun i h => ⟨(hS i).2.1 (by omega), ((hS i).2.2.1 h).2⟩
  have g9 : ∀ i, kd i = 9 ∨ kd i = 11 → ya i = nI (av i) ∧ av i ≤ 3 := fun i h => ⟨(hS i).2.1 (by omega), (hS i).2.2.2.1 h⟩
  unfold wpX_run
  refine zq_cx (av := av) hK f7 f9 hn (fun B b c w a t => br_c (fun r0 => ?_) (fun r0 => ?_))
  · have hG := zq_rG r0
    refine zo_compile hS hG.1 hG.2.1 hG.2.2.1 hn (fun C P O E hi m k' T c' e s hh hM => ?_)
    obtain ⟨Q, m', V, C', o, L, R, o1, o2, o3, o4⟩ := za_go (xB := B) (xC := C) (xP := P) (xO := O) (xE := E) (xA := 0) (xk := yk) (xv := yv) (xb := b) (xc := c) (xw := w) (xi := a) (xm := t) (bk := k') (bT := T) (bc := c') (ent := e) (cs := s) (yV := yV) (yC := yC) (yO := yO) (yL := yL) (yR := yR) (yr := yr) (yw := yw) (ym := ym) hS hn hG hh hM
    refine ⟨54008, o3 _ 54008 (Nat.le_refl _) (fun K A => ?_) 0⟩
    show wpY_run (fun r' v' => r' = Q ∧ i_Rel (k + 5) _ v') (nI n, yP, yk, ya, yb, yc, yv, yV, yC, yO, yL, yR, yr, yw, ym)
    unfold wpY_run
    refine zq_cy (av := av) hK g7 g9 hn (fun c2 w2 t2 => br_t r0 ⟨9, ?_⟩)
    have R13 := za_13 (post := fun r' v' => r' = Q ∧ i_Rel (k + 5) (nI n, B, C, P, O, E, K, A, 0, Q, yk, xf, xs, xt, yv, b, c, w, a, t, m', k', T, c', e, s, o) v') (yN := nI n) (yP := yP) (yk := yk) (ya := ya) (yb := yb) (yc := yc) (yv := yv) (yV := yV) (yC := yC) (yO := yO) (yL := yL) (yR := yR) (yr := c2) (yw := w2) (ym := t2) ⟨9002, o4 _ 9002 c2 w2 t2 (Nat.le_refl _) ⟨rfl, zz_in hn hS o1 o2⟩⟩ 8 0 (by omega) 9 (by omega)
    rw [za_c0] at R13
    exact R13
  · show wpY_run (fun r' v' => r' = zq_r kd av n ∧ i_Rel (k + 5) _ v') (nI n, yP, yk, ya, yb, yc, yv, yV, yC, yO, yL, yR, yr, yw, ym)
    unfold wpY_run
    refine zq_cy (av := av) hK g7 g9 hn (fun c2 w2 t2 => br_f r0 ⟨rfl, zz_in hn hS h1 h2⟩)
end ZA
end
section
section ZD
/-! the other methods -/
variable {xL xB xC xP xO xE xK xA xR xQ : Int32} {xk xf xs xt xv xb xc xm mem bk bT bc ent cs pv : Nat → Int32} {xw xi : Nat → Int64}
variable {yN yP : Int32} {yk ya yb yc yv yV yC yO yL yR yr : Nat → Int32} {yw ym : Nat → Int64}
variable {kd av bv cv : Nat → Nat} {n : Nat}
theorem i_vc0 : wpX_init (fun u => wpY_init (fun v => i_Rel 0 u v)) := by
  refine ⟨0, fun _ => 0, fun _ => 0, fun _ => 0, fun _ => 0, rfl, rfl, rfl, rfl, rfl, rfl, by omega, fun i => ?_, fun v _ => rfl, fun q _ => rfl⟩
  unfold zn_S
  dsimp only
  exact ⟨⟨by omega, rfl⟩, fun _ => rfl, fun h => by omega, fun h => by omega, fun _ => by omega, fun h => by omega, fun h => by omega, fun _ => ⟨rfl, rfl⟩, fun h => absurd rfl h, fun h => by omega⟩
theorem i_vc_retract {k : Nat} {u : SX} {v : SY} (I : i_Rel k u v) (hk : k + 5 ≤ 2560) : wpX_retract (fun r u' => wpY_retract (fun r' v' => r' = r ∧ i_Rel (k + 5) u' v') v) u := by
  refine zz_el (P := fun u v => wpX_retract (fun r u' => wpY_retract (fun r' v' => r' = r ∧ i_Rel (k + 5) u' v') v) u) ?_ I
  intro n kd av bv cv xL xB xC xP xO xE xK xA xR xQ xk xf xs xt xv xb xc xw xi xm mem bk bT bc ent cs pv yN yP yk ya yb yc yv yV yC yO yL yR yr yw ym hn hS h1 h2
  cases n with
  | zero => exact br_t rfl (br_t rfl ⟨rfl, zz_in hn hS h1 h2⟩)
  | succ n =>
    have ne : ¬ nI (n + 1) = 0 := nI_ne0 (by omega) (by omega)
    exact br_f ne (nm_r (nI_pred n) (br_f ne (nm_r (nI_pred n) ⟨rfl, zz_in (by omega) hS h1 h2⟩)))
theorem i_vc_start {k : Nat} {u : SX} {v : SY} (I : i_Rel k u v) (hk : k + 5 ≤ 2560) (v1 : Int32) (v2 : Int32) : wpX_start (fun r u' => wpY_start (fun r' v' => r' = r ∧ i_Rel (k + 5) u' v') v v1 v2) u v1 v2 := by
  refine zz_el (P := fun u v => wpX_start (fun r u' => wpY_start (fun r' v' => r' = r ∧ i_Rel (k + 5) u' v') v v1 v2) u v1 v2) ?_ I
  intro n kd av bv cv xL xB xC xP xO xE xK xA xR xQ xk xf xs xt xv xb xc xw xi xm mem bk bT bc ent cs pv yN yP yk ya yb yc yv yV yC yO yL yR yr yw ym hn hS h1 h2
  by_cases h0 : v1 < 0
  · exact br_t h0 (br_t h0 ⟨rfl, zz_in hn hS h1 h2⟩)
  · by_cases h7 : v1 ≤ 7
    · obtain ⟨j, hj, rfl⟩ := nI_of2 (n := 7) (M := 7) (by decide) h0 h7
      have vj : vp_in (nI j) 8 := vp_in_nI (by omega) (by omega)
      exact br_f h0 (br_t h7 ⟨vj, nm_e (br_f h0 (br_t h7 ⟨vj, nm_e ⟨rfl, zz_in hn hS h1 h2⟩⟩))⟩)
    · exact br_f h0 (br_f h7 (br_f h0 (br_f h7 ⟨rfl, zz_in hn hS h1 h2⟩)))
theorem i_vc_check {k : Nat} {u : SX} {v : SY} (I : i_Rel k u v) (hk : k + 5 ≤ 2560) : wpX_check (fun r u' => wpY_check (fun r' v' => r' = r ∧ i_Rel (k + 5) u' v') v) u := by
  refine zz_el (P := fun u v => wpX_check (fun r u' => wpY_check (fun r' v' => r' = r ∧ i_Rel (k + 5) u' v') v) u) ?_ I
  intro n kd av bv cv xL xB xC xP xO xE xK xA xR xQ xk xf xs xt xv xb xc xw xi xm mem bk bT bc ent cs pv yN yP yk ya yb yc yv yV yC yO yL yR yr yw ym hn hS h1 h2
  have hK := zn_SK hS
  have f7 : ∀ i, kd i = 7 → xf i = nI (av i) ∧ av i ≤ 5 := fun i h => ⟨by rw [(hS i).2.2.2.2.2.2.2.2.1 (by omega)]; exact (hS i).2.1 (by omega), ((hS i).2.2.1 h).2⟩
  have f9 : ∀ i, kd i = 9 ∨ kd i = 11 → xf i = nI (av i) ∧ av i ≤ 3 := fun i h => ⟨by rw [(hS i).2.2.2.2.2.2.2.2.1 (by omega)]; exact (hS i).2.1 (by omega), (hS i).2.2.2.1 h⟩
  have g7 : ∀ i, kd i = 7 → ya i = nI (av i) ∧ av i ≤ 5 := fun i h => ⟨(hS i).2.1 (by omega), ((hS i).2.2.1 h).2⟩
  have g9 : ∀ i, kd i = 9 ∨ kd i = 11 → ya i = nI (av i) ∧ av i ≤ 3 := fun i h => ⟨(hS i).2.1 (by omega), (hS i).2.2.2.1 h⟩
  refine zq_cx (av := av) hK f7 f9 hn (fun B b c w a t => ?_)
  refine zq_cy (av := av) hK g7 g9 hn (fun c2 w2 t2 => ?_)
  exact ⟨rfl, zz_in hn hS h1 h2⟩
theorem i_vc_printed {k : Nat} {u : SX} {v : SY} (I : i_Rel k u v) (hk : k + 5 ≤ 2560) : wpX_printed (fun r => wpY_printed (fun r' => r' = r ∧ i_Rel (k + 5) u v) v) u := by
  refine zz_el (P := fun u v => i_Rel (k + 5) u v → wpX_printed (fun r => wpY_printed (fun r' => r' = r ∧ i_Rel (k + 5) u v) v) u) ?_ I (i_up I)
  intro n kd av bv cv xL xB xC xP xO xE xK xA xR xQ xk xf xs xt xv xb xc xw xi xm mem bk bT bc ent cs pv yN yP yk ya yb yc yv yV yC yO yL yR yr yw ym hn hS h1 h2 J
  exact ⟨rfl, J⟩
theorem i_vc_output {k : Nat} {u : SX} {v : SY} (I : i_Rel k u v) (hk : k + 5 ≤ 2560) (v1 : Int32) : wpX_output (fun r => wpY_output (fun r' => r' = r ∧ i_Rel (k + 5) u v) v v1) u v1 := by
  refine zz_el (P := fun u v => i_Rel (k + 5) u v → wpX_output (fun r => wpY_output (fun r' => r' = r ∧ i_Rel (k + 5) u v) v v1) u v1) ?_ I (i_up I)
  intro n kd av bv cv xL xB xC xP xO xE xK xA xR xQ xk xf xs xt xv xb xc xw xi xm mem bk bT bc ent cs pv yN yP yk ya yb yc yv yV yC yO yL yR yr yw ym hn hS h1 h2 J
  by_cases h0 : v1 < 0
  · exact br_t h0 (br_t h0 ⟨rfl, J⟩)
  · by_cases hp : yP ≤ v1
    · exact br_f h0 (br_t hp (br_f h0 (br_t hp ⟨rfl, J⟩)))
    · by_cases h48 : v1 < 48
      · have h48' : ¬ (48 : Int32) ≤ v1 := Int32.not_le.mpr h48
        have vi : vp_in v1 48 := by
          obtain ⟨j, hj, rfl⟩ := nI_of h0
          exact vp_in_nI ((nI_ltI (b := 48) hj (by omega)).mp h48) (by omega)
        exact br_f h0 (br_f hp (br_t h48 ⟨vi, br_f h0 (br_f hp (br_f h48' ⟨vi, rfl, J⟩))⟩))
      · have h48' : (48 : Int32) ≤ v1 := Int32.not_lt.mp h48
        exact br_f h0 (br_f hp (br_f h48 (br_f h0 (br_f hp (br_t h48' ⟨rfl, J⟩)))))
theorem i_vc_variable {k : Nat} {u : SX} {v : SY} (I : i_Rel k u v) (hk : k + 5 ≤ 2560) (v1 : Int32) : wpX_variable (fun r => wpY_variable (fun r' => r' = r ∧ i_Rel (k + 5) u v) v v1) u v1 := by
  refine zz_el (P := fun u v => i_Rel (k + 5) u v → wpX_variable (fun r => wpY_variable (fun r' => r' = r ∧ i_Rel (k + 5) u v) v v1) u v1) ?_ I (i_up I)
  intro n kd av bv cv xL xB xC xP xO xE xK xA xR xQ xk xf xs xt xv xb xc xw xi xm mem bk bT bc ent cs pv yN yP yk ya yb yc yv yV yC yO yL yR yr yw ym hn hS h1 h2 J
  by_cases h0 : v1 < 0
  · exact br_t h0 (br_t h0 ⟨rfl, J⟩)
  · by_cases h7 : v1 ≤ 7
    · have h7' : ¬ (7 : Int32) < v1 := Int32.not_lt.mpr h7
      refine br_f h0 (br_t h7 ?_)
      obtain ⟨j, hj, rfl⟩ := nI_of2 (n := 7) (M := 7) (by decide) h0 h7
      have e8 : (800 : Int32) + nI j = nI (800 + j) := nI_add 800 j
      rw [e8, zn_cl (i := 800 + j) (by omega)]
      refine ⟨vp_in_nI (by omega) (by omega), br_f h0 (br_f h7' ⟨vp_in_nI (by omega) (by omega), ?_, J⟩)⟩
      rw [zn_cl (i := j) (by omega), h1 j (by omega)]
    · have h7' : (7 : Int32) < v1 := Int32.not_le.mp h7
      exact br_f h0 (br_f h7 (br_f h0 (br_t h7' ⟨rfl, J⟩)))
theorem i_vc_cell {k : Nat} {u : SX} {v : SY} (I : i_Rel k u v) (hk : k + 5 ≤ 2560) (v1 : Int32) (v2 : Int32) : wpX_cell (fun r => wpY_cell (fun r' => r' = r ∧ i_Rel (k + 5) u v) v v1 v2) u v1 v2 := by
  refine zz_el (P := fun u v => i_Rel (k + 5) u v → wpX_cell (fun r => wpY_cell (fun r' => r' = r ∧ i_Rel (k + 5) u v) v v1 v2) u v1 v2) ?_ I (i_up I)
  intro n kd av bv cv xL xB xC xP xO xE xK xA xR xQ xk xf xs xt xv xb xc xw xi xm mem bk bT bc ent cs pv yN yP yk ya yb yc yv yV yC yO yL yR yr yw ym hn hS h1 h2 J
  by_cases h0 : v1 < 0
  · exact br_t h0 (br_t h0 ⟨rfl, J⟩)
  · by_cases h3 : 2 < v1
    · exact br_f h0 (br_t h3 (br_f h0 (br_t h3 ⟨rfl, J⟩)))
    · by_cases g0 : v2 < 0
      · exact br_f h0 (br_f h3 (br_t g0 (br_f h0 (br_f h3 (br_t g0 ⟨rfl, J⟩)))))
      · by_cases h7 : v2 ≤ 7
        · have h7' : ¬ (7 : Int32) < v2 := Int32.not_lt.mpr h7
          refine br_f h0 (br_f h3 (br_f g0 (br_t h7 ?_)))
          obtain ⟨a, ha, rfl⟩ := nI_of2 (n := 2) (M := 2) (by decide) h0 (Int32.not_lt.mp h3)
          obtain ⟨j, hj, rfl⟩ := nI_of2 (n := 7) (M := 7) (by decide) g0 h7
          have e1 : ((808 : Int32) + 8 * nI a) + nI j = nI (808 + (8 * a + j)) := by
            rw [← Nat.add_assoc, ← nI_add (808 + 8 * a), ← nI_add 808, ← pk_mul]; rfl
          have e2 : (8 : Int32) * nI a + nI j = nI (8 * a + j) := by
            rw [← nI_add, ← pk_mul]; rfl
          rw [e1, zn_cl (i := 808 + (8 * a + j)) (by omega)]
          refine ⟨vp_in_nI (by omega) (by omega), br_f h0 (br_f h3 (br_f g0 (br_f h7' ?_)))⟩
          rw [e2, zn_cl (i := 8 * a + j) (by omega)]
          exact ⟨vp_in_nI (by omega) (by omega), (h2 _ (by omega)).symm, J⟩
        · have h7' : (7 : Int32) < v2 := Int32.not_le.mp h7
          exact br_f h0 (br_f h3 (br_f g0 (br_f h7 (br_f h0 (br_f h3 (br_f g0 (br_t h7' ⟨rfl, J⟩)))))))
/-! clear -/
theorem zd_x33 {post : SX → Prop} (H : post (xL, xB, xC, xP, xO, xE, xK, xA, xR, xQ, xk, xf, xs, xt, xv, xb, xc, xw, xi, xm, za_z 1024 mem, bk, bT, bc, ent, cs, pv)) : ∀ d i, i + d = 1024 → ∀ f, d < f → wX_clear_33 post xL xB xC xP xO xE xK xA xR xQ f (nI i) xk xf xs xt xv xb xc xw xi xm (za_z i mem) bk bT bc ent cs pv := by
  intro d
  induction d with
  | zero =>
    intro i hi f hff
    obtain ⟨f, rfl⟩ : ∃ g, f = g + 1 := ⟨f - 1, by omega⟩
    have e : i = 1024 := by omega
    subst e
    exact br_t (nI_le (Nat.le_refl _) (by omega)) H
  | succ d ih =>
    intro i hi f hff
    obtain ⟨f, rfl⟩ : ∃ g, f = g + 1 := ⟨f - 1, by omega⟩
    exact br_f (nI_ge (b := 1024) (by omega) (by omega)) ⟨vp_in_nI (by omega) (by omega), nm_r (e' := za_z (i + 1) mem) (by rw [zn_cl (by omega), za_zs]) (nm_r (nI_1 i) (ih (i + 1) (by omega) f (by omega)))⟩
theorem zd_x12 {post : SX → Prop} (H : post (xL, xB, xC, xP, xO, xE, xK, xA, xR, xQ, xk, xf, xs, xt, za_z 8 xv, xb, xc, xw, xi, xm, za_z 1024 mem, bk, bT, bc, ent, cs, pv)) : ∀ d i, i + d = 8 → ∀ f, d < f → wX_clear_12 post xL xB xC xP xO xE xK xA xR xQ f (nI i) xk xf xs xt (za_z i xv) xb xc xw xi xm mem bk bT bc ent cs pv := by
  intro d
  induction d with
  | zero =>
    intro i hi f hff
    obtain ⟨f, rfl⟩ : ∃ g, f = g + 1 := ⟨f - 1, by omega⟩
    have e : i = 8 := by omega
    subst e
    have := zd_x33 H 1024 0 (by omega) 1025 (by omega)
    rw [za_z0] at this
    exact br_t (nI_le (Nat.le_refl _) (by omega)) ⟨1025, this⟩
  | succ d ih =>
    intro i hi f hff
    obtain ⟨f, rfl⟩ : ∃ g, f = g + 1 := ⟨f - 1, by omega⟩
    exact br_f (nI_ge (b := 8) (by omega) (by omega)) ⟨vp_in_nI (by omega) (by omega), nm_r (e' := za_z (i + 1) xv) (by rw [zn_cl (by omega), za_zs]) (nm_r (nI_1 i) (ih (i + 1) (by omega) f (by omega)))⟩
theorem zd_y40 {post : SY → Prop} (H : post (yN, yP, yk, ya, yb, yc, yv, yV, za_z 24 yC, yO, yL, yR, yr, yw, ym)) : ∀ d i, i + d = 24 → ∀ f, d < f → wY_clear_40 post yN yP f (nI i) yk ya yb yc yv yV (za_z i yC) yO yL yR yr yw ym := by
  intro d
  induction d with
  | zero =>
    intro i hi f hff
    obtain ⟨f, rfl⟩ : ∃ g, f = g + 1 := ⟨f - 1, by omega⟩
    have e : i = 24 := by omega
    subst e
    exact br_t (nI_le (Nat.le_refl _) (by omega)) H
  | succ d ih =>
    intro i hi f hff
    obtain ⟨f, rfl⟩ : ∃ g, f = g + 1 := ⟨f - 1, by omega⟩
    exact br_f (nI_ge (b := 24) (by omega) (by omega)) ⟨vp_in_nI (by omega) (by omega), nm_r (e' := za_z (i + 1) yC) (by rw [zn_cl (by omega), za_zs]) (nm_r (nI_1 i) (ih (i + 1) (by omega) f (by omega)))⟩
theorem zd_y12 {post : SY → Prop} (H : post (yN, yP, yk, ya, yb, yc, za_z 8 yv, za_z 8 yV, za_z 24 yC, yO, yL, yR, yr, yw, ym)) : ∀ d i, i + d = 8 → ∀ f, d < f → wY_clear_12 post yN yP f (nI i) yk ya yb yc (za_z i yv) (za_z i yV) yC yO yL yR yr yw ym := by
  intro d
  induction d with
  | zero =>
    intro i hi f hff
    obtain ⟨f, rfl⟩ : ∃ g, f = g + 1 := ⟨f - 1, by omega⟩
    have e : i = 8 := by omega
    subst e
    have := zd_y40 H 24 0 (by omega) 25 (by omega)
    rw [za_z0] at this
    exact br_t (nI_le (Nat.le_refl _) (by omega)) ⟨25, this⟩
  | succ d ih =>
    intro i hi f hff
    obtain ⟨f, rfl⟩ : ∃ g, f = g + 1 := ⟨f - 1, by omega⟩
    exact br_f (nI_ge (b := 8) (by omega) (by omega)) ⟨vp_in_nI (by omega) (by omega), nm_r (e' := za_z (i + 1) yv) (by rw [zn_cl (by omega), za_zs]) ⟨vp_in_nI (by omega) (by omega), nm_r (e' := za_z (i + 1) yV) (by rw [zn_cl (by omega), za_zs]) (nm_r (nI_1 i) (ih (i + 1) (by omega) f (by omega)))⟩⟩
theorem i_vc_clear {k : Nat} {u : SX} {v : SY} (I : i_Rel k u v) (hk : k + 5 ≤ 2560) : wpX_clear (fun u' => wpY_clear (fun v' => i_Rel (k + 5) u' v') v) u := by
  refine zz_el (P := fun u v => wpX_clear (fun u' => wpY_clear (fun v' => i_Rel (k + 5) u' v') v) u) ?_ I
  intro n kd av bv cv xL xB xC xP xO xE xK xA xR xQ xk xf xs xt xv xb xc xw xi xm mem bk bT bc ent cs pv yN yP yk ya yb yc yv yV yC yO yL yR yr yw ym hn hS h1 h2
  have X12 := zd_x12 (post := fun u' => wpY_clear (fun v' => i_Rel (k + 5) u' v') (nI n, yP, yk, ya, yb, yc, yv, yV, yC, yO, yL, yR, yr, yw, ym)) (xL := 0) (xB := xB) (xC := xC) (xP := xP) (xO := xO) (xE := xE) (xK := xK) (xA := xA) (xR := xR) (xQ := 0) (xk := yk) (xf := xf) (xs := xs) (xt := xt) (xv := yv) (xb := xb) (xc := xc) (xw := xw) (xi := xi) (xm := xm) (mem := mem) (bk := bk) (bT := bT) (bc := bc) (ent := ent) (cs := cs) (pv := yO) (by
    have Y12 := zd_y12 (post := fun v' => i_Rel (k + 5) (0, xB, xC, xP, xO, xE, xK, xA, xR, 0, yk, xf, xs, xt, za_z 8 yv, xb, xc, xw, xi, xm, za_z 1024 mem, bk, bT, bc, ent, cs, yO) v') (yN := 0) (yP := 0) (yk := yk) (ya := ya) (yb := yb) (yc := yc) (yv := yv) (yV := yV) (yC := yC) (yO := yO) (yL := yL) (yR := yR) (yr := yr) (yw := yw) (ym := ym) (zz_in (n := 0) (by omega) hS (fun v hv => by
        show (if 800 + v < 1024 then (0 : Int32) else mem (800 + v)) = (if v < 8 then 0 else yV v)
        rw [if_pos (by omega), if_pos hv]) (fun q hq => by
        show (if 808 + q < 1024 then (0 : Int32) else mem (808 + q)) = (if q < 24 then 0 else yC q)
        rw [if_pos (by omega), if_pos hq])) 8 0 (by omega) 9 (by omega)
    rw [za_z0, za_z0] at Y12
    exact ⟨9, Y12⟩) 8 0 (by omega) 9 (by omega)
  rw [za_z0] at X12
  exact ⟨9, X12⟩
end ZD
end
section
section ZZ
/-! add -/
variable {xL xB xC xP xO xE xK xA xR xQ : Int32} {xk xf xs xt xv xb xc xm mem bk bT bc ent cs pv : Nat → Int32} {xw xi : Nat → Int64}
variable {yN yP : Int32} {yk ya yb yc yv yV yC yO yL yR yr : Nat → Int32} {yw ym : Nat → Int64}
variable {kd av bv cv : Nat → Nat} {n : Nat}
def zd_F (k : Nat) (p1 p2 p3 : Int32) : Prop := (k = 7 → ¬ p1 < 1 ∧ ¬ 5 < p1) ∧ (k = 9 ∨ k = 11 → ¬ p1 < 0 ∧ ¬ 3 < p1) ∧ (k ≤ 6 ∨ k = 10 → ¬ p1 < 0 ∧ ¬ 7 < p1) ∧ (1 ≤ k ∧ k ≤ 5 → ¬ p3 < 0 ∧ ¬ 7 < p3) ∧ (1 ≤ k ∧ k ≤ 3 → ¬ p2 < 0 ∧ ¬ 7 < p2) ∧ (k = 4 ∨ k = 5 → ¬ p2 < 0 ∧ ¬ 2 < p2)
theorem zd_nl {a b : Int32} (h : ¬ a ≤ b) : b < a := Int32.not_le.mp h
theorem zd_ln {a b : Int32} (h : a ≤ b) : ¬ b < a := Int32.not_lt.mpr h
theorem zd_x34 {post : Int32 → Prop} {p1 : Int32} (h1 : ¬ p1 < 0 ∧ ¬ 3 < p1 → post 1) (h0 : ¬ (¬ p1 < 0 ∧ ¬ 3 < p1) → post 0) : wX_fits_34 post p1 xL xB xC xP xO xE xK xA xR xQ xk xf xs xt xv xb xc xw xi xm mem bk bT bc ent cs pv :=
  br_c (fun a => h0 (fun h => h.1 a)) (fun a => br_c (fun b => h0 (fun h => h.2 b)) (fun b => h1 ⟨a, b⟩))
theorem zd_x111 {post : Int32 → Prop} {p2 : Int32} (h1 : ¬ p2 < 0 ∧ ¬ 2 < p2 → post 1) (h0 : ¬ (¬ p2 < 0 ∧ ¬ 2 < p2) → post 0) : wX_fits_111 post p2 xL xB xC xP xO xE xK xA xR xQ xk xf xs xt xv xb xc xw xi xm mem bk bT bc ent cs pv :=
  br_c (fun a => h0 (fun h => h.1 a)) (fun a => br_c (fun b => h0 (fun h => h.2 b)) (fun b => h1 ⟨a, b⟩))
theorem zd_x {post : Int32 → Prop} {k : Nat} {p1 p2 p3 : Int32} (hk : k ≤ 11) (h1 : zd_F k p1 p2 p3 → post 1) (h0 : ¬ zd_F k p1 p2 p3 → post 0) : wpX_fits post (xL, xB, xC, xP, xO, xE, xK, xA, xR, xQ, xk, xf, xs, xt, xv, xb, xc, xw, xi, xm, mem, bk, bT, bc, ent, cs, pv) (nI k) p1 p2 p3 := by
  have v : ∀ {p : Prop}, k ≠ k → p := fun h => absurd rfl h
  refine pk_eq k 7 (fun e => br_c (fun a => h0 (fun F => (F.1 e).1 a)) (fun a => br_c (fun b => h0 (fun F => (F.1 e).2 b)) (fun b => h1 ⟨fun _ => ⟨a, b⟩, fun h => absurd h (by omega), fun h => absurd h (by omega), fun h => absurd h (by omega), fun h => absurd h (by omega), fun h => absurd h (by omega)⟩))) (fun e7 => pk_eq k 9 (fun e => zd_x34 (fun a => h1 ⟨fun h => absurd h (by omega), fun _ => a, fun h => absurd h (by omega), fun h => absurd h (by omega), fun h => absurd h (by omega), fun h => absurd h (by omega)⟩) (fun a => h0 (fun F => a (F.2.1 (Or.inl e))))) (fun e9 => pk_eq k 11 (fun e => zd_x34 (fun a => h1 ⟨fun h => absurd h (by omega), fun _ => a, fun h => absurd h (by omega), fun h => absurd h (by omega), fun h => absurd h (by omega), fun h => absurd h (by omega)⟩) (fun a => h0 (fun F => a (F.2.1 (Or.inr e))))) (fun e11 => pk_eq k 8 (fun e => h1 ⟨fun h => absurd h (by omega), fun h => absurd h (by omega), fun h => absurd h (by omega), fun h => absurd h (by omega), fun h => absurd h (by omega), fun h => absurd h (by omega)⟩) (fun e8 => br_c (fun a => h0 (fun F => (F.2.2.1 (by omega)).1 a)) (fun a => br_c (fun b => ?_) (fun b => h0 (fun F => (F.2.2.1 (by omega)).2 (zd_nl b))))))))
  have ab : ¬ p1 < 0 ∧ ¬ 7 < p1 := ⟨a, zd_ln b⟩
  have free : (k = 0 ∨ k = 6 ∨ k = 10) → post 1 := fun e => h1 ⟨fun h => absurd h (by omega), fun h => absurd h (by omega), fun _ => ab, fun h => absurd h (by omega), fun h => absurd h (by omega), fun h => absurd h (by omega)⟩
  refine pk_eq k 0 (fun e => free (by omega)) (fun e0 => pk_eq k 6 (fun e => free (by omega)) (fun e6 => pk_eq k 10 (fun e => free (by omega)) (fun e10 => br_c (fun c => h0 (fun F => (F.2.2.2.1 (by omega)).1 c)) (fun c => br_c (fun d => ?_) (fun d => h0 (fun F => (F.2.2.2.1 (by omega)).2 (zd_nl d)))))))
  have cd : ¬ p3 < 0 ∧ ¬ 7 < p3 := ⟨c, zd_ln d⟩
  have gp : (k = 4 ∨ k = 5) → wX_fits_111 post p2 xL xB xC xP xO xE xK xA xR xQ xk xf xs xt xv xb xc xw xi xm mem bk bT bc ent cs pv := fun e => zd_x111 (fun g => h1 ⟨fun h => absurd h (by omega), fun h => absurd h (by omega), fun _ => ab, fun _ => cd, fun h => absurd h (by omega), fun _ => g⟩) (fun g => h0 (fun F => g (F.2.2.2.2.2 e)))
  refine pk_eq k 4 (fun e => gp (Or.inl e)) (fun e4 => pk_eq k 5 (fun e => gp (Or.inr e)) (fun e5 => br_c (fun g => h0 (fun F => (F.2.2.2.2.1 (by omega)).1 g)) (fun g => br_c (fun g' => h0 (fun F => (F.2.2.2.2.1 (by omega)).2 g')) (fun g' => h1 ⟨fun h => absurd h (by omega), fun h => absurd h (by omega), fun _ => ab, fun _ => cd, fun _ => ⟨g, g'⟩, fun h => absurd h (by omega)⟩))))
theorem zd_y54 {post : Int32 → Prop} {p1 : Int32} (h1 : ¬ p1 < 0 ∧ ¬ 3 < p1 → post 1) (h0 : ¬ (¬ p1 < 0 ∧ ¬ 3 < p1) → post 0) : wY_fits_54 post p1 yN yP yk ya yb yc yv yV yC yO yL yR yr yw ym :=
  br_c (fun a => h0 (fun h => h.1 a)) (fun a => br_c (fun b => h0 (fun h => h.2 b)) (fun b => h1 ⟨a, b⟩))
theorem zd_y129 {post : Int32 → Prop} {p2 p3 : Int32} (h1 : ¬ p2 < 0 ∧ ¬ 2 < p2 → ¬ p3 < 0 ∧ ¬ 7 < p3 → post 1) (h0 : ¬ ((¬ p2 < 0 ∧ ¬ 2 < p2) ∧ ¬ p3 < 0 ∧ ¬ 7 < p3) → post 0) : wY_fits_129 post p2 p3 yN yP yk ya yb yc yv yV yC yO yL yR yr yw ym :=
  br_c (fun a => h0 (fun h => h.1.1 a)) (fun a => br_c (fun b => h0 (fun h => h.1.2 b)) (fun b => br_c (fun c => h0 (fun h => h.2.1 c)) (fun c => br_c (fun d => h0 (fun h => h.2.2 d)) (fun d => h1 ⟨a, b⟩ ⟨c, d⟩))))
theorem zd_yk {post : Int32 → Prop} {k : Nat} {p1 p2 p3 : Int32} (hk : k ≤ 11) (h1 : zd_F k p1 p2 p3 → post 1) (h0 : ¬ zd_F k p1 p2 p3 → post 0) : wpY_fits post (yN, yP, yk, ya, yb, yc, yv, yV, yC, yO, yL, yR, yr, yw, ym) (nI k) p1 p2 p3 := by
  refine br_f (nI_pos (by omega)) (br_t (nI_le (b := 11) hk (by omega)) ?_)
  refine pk_eq k 8 (fun e => h1 ⟨fun h => absurd h (by omega), fun h => absurd h (by omega), fun h => absurd h (by omega), fun h => absurd h (by omega), fun h => absurd h (by omega), fun h => absurd h (by omega)⟩) (fun e8 => pk_eq k 7 (fun e => br_c (fun a => h0 (fun F => (F.1 e).1 a)) (fun a => br_c (fun b => h0 (fun F => (F.1 e).2 b)) (fun b => h1 ⟨fun _ => ⟨a, b⟩, fun h => absurd h (by omega), fun h => absurd h (by omega), fun h => absurd h (by omega), fun h => absurd h (by omega), fun h => absurd h (by omega)⟩))) (fun e7 => pk_eq k 9 (fun e => zd_y54 (fun a => h1 ⟨fun h => absurd h (by omega), fun _ => a, fun h => absurd h (by omega), fun h => absurd h (by omega), fun h => absurd h (by omega), fun h => absurd h (by omega)⟩) (fun a => h0 (fun F => a (F.2.1 (Or.inl e))))) (fun e9 => pk_eq k 11 (fun e => zd_y54 (fun a => h1 ⟨fun h => absurd h (by omega), fun _ => a, fun h => absurd h (by omega), fun h => absurd h (by omega), fun h => absurd h (by omega), fun h => absurd h (by omega)⟩) (fun a => h0 (fun F => a (F.2.1 (Or.inr e))))) (fun e11 => br_c (fun a => h0 (fun F => (F.2.2.1 (by omega)).1 a)) (fun a => br_c (fun b => ?_) (fun b => h0 (fun F => (F.2.2.1 (by omega)).2 (zd_nl b))))))))
  have ab : ¬ p1 < 0 ∧ ¬ 7 < p1 := ⟨a, zd_ln b⟩
  have n119 : ¬ (1 ≤ k ∧ k ≤ 3) → wY_fits_119 post (nI k) p2 p3 yN yP yk ya yb yc yv yV yC yO yL yR yr yw ym := fun hh => by
    have gp : (k = 4 ∨ k = 5) → wY_fits_129 post p2 p3 yN yP yk ya yb yc yv yV yC yO yL yR yr yw ym := fun e => zd_y129 (fun g cd => h1 ⟨fun h => absurd h (by omega), fun h => absurd h (by omega), fun _ => ab, fun _ => cd, fun h => absurd h (by omega), fun _ => g⟩) (fun g => h0 (fun F => g ⟨F.2.2.2.2.2 e, F.2.2.2.1 (by omega)⟩))
    exact pk_eq k 4 (fun e => gp (Or.inl e)) (fun e4 => pk_eq k 5 (fun e => gp (Or.inr e)) (fun e5 => h1 ⟨fun h => absurd h (by omega), fun h => absurd h (by omega), fun _ => ab, fun h => absurd h (by omega), fun h => absurd h (by omega), fun h => absurd h (by omega)⟩))
  refine pk_lt k 1 (fun e => n119 (by omega)) (fun e1 => pk_lt 3 k (fun e => n119 (by omega)) (fun e3 => br_c (fun g => h0 (fun F => (F.2.2.2.2.1 (by omega)).1 g)) (fun g => br_c (fun g' => h0 (fun F => (F.2.2.2.2.1 (by omega)).2 g')) (fun g' => br_c (fun c => h0 (fun F => (F.2.2.2.1 (by omega)).1 c)) (fun c => br_c (fun d => h0 (fun F => (F.2.2.2.1 (by omega)).2 d)) (fun d => h1 ⟨fun h => absurd h (by omega), fun h => absurd h (by omega), fun _ => ab, fun _ => ⟨c, d⟩, fun _ => ⟨g, g'⟩, fun h => absurd h (by omega)⟩))))))
theorem zd_rg {x : Int32} {m : Nat} {M : Int32} (hM : M.toInt = m) (h : ¬ x < 0 ∧ ¬ M < x) : x.toNatClampNeg ≤ m ∧ x = nI x.toNatClampNeg ∧ m < 2 ^ 31 := by
  obtain ⟨j, hj, rfl⟩ := nI_of2 hM h.1 (Int32.not_lt.mp h.2)
  have lt := M.toInt_lt
  have hm : m < 2 ^ 31 := by omega
  rw [nI_clamp (by omega)]
  exact ⟨hj, rfl, hm⟩
def zd_u (f : Nat → Nat) (n x : Nat) : Nat → Nat := fun i => if i = n then x else f i
theorem zd_us (f : Nat → Nat) (n x : Nat) : zd_u f n x n = x := if_pos rfl
theorem zd_un {f : Nat → Nat} {n x i : Nat} (h : i ≠ n) : zd_u f n x i = f i := if_neg h
theorem zd_new {k : Nat} {p1 p2 p3 z0 z1 z3 : Int32} (hk : k ≤ 11) (hF : zd_F k p1 p2 p3) (hS : ∀ i, zn_S kd av bv cv yk ya yb yc xf xs xt i) (e0 : z0 = if k = 0 then p2 else p1) (e1 : z1 = vp_nar .byte (if k = 0 then p1 else p2).toInt8.toInt32) (e3 : z3 = vp_nar .byte p3.toInt8.toInt32) : ∀ i, zn_S (zd_u kd n k) (zd_u av n p1.toNatClampNeg) (zd_u bv n p2.toNatClampNeg) (zd_u cv n p3.toNatClampNeg) (upd yk n (nI k)) (upd ya n p1) (upd yb n p2) (upd yc n p3) (upd xf n z0) (upd xs n z1) (upd xt n z3) i := by
  intro i
  by_cases h : i = n
  · subst h
    unfold zn_S
    rw [zd_us, zd_us, zd_us, zd_us, pk_us, pk_us, pk_us, pk_us, pk_us, pk_us, pk_us]
    obtain ⟨f1, f2, f3, f4, f5, f6⟩ := hF
    have q1 : 1 ≤ k ∧ k ≤ 5 → p2 = nI p2.toNatClampNeg ∧ p2.toNatClampNeg ≤ 7 := fun h => by
      by_cases g : k ≤ 3
      · obtain ⟨a, b, _⟩ := zd_rg (m := 7) (by decide) (f5 (by omega)); exact ⟨b, a⟩
      · obtain ⟨a, b, _⟩ := zd_rg (m := 2) (by decide) (f6 (by omega)); exact ⟨b, by omega⟩
    have q3 : 1 ≤ k ∧ k ≤ 5 → p3 = nI p3.toNatClampNeg ∧ p3.toNatClampNeg ≤ 7 := fun h => by
      obtain ⟨a, b, _⟩ := zd_rg (m := 7) (by decide) (f4 h); exact ⟨b, a⟩
    have q7 : k = 7 → 1 ≤ p1.toNatClampNeg ∧ p1.toNatClampNeg ≤ 5 ∧ p1 = nI p1.toNatClampNeg := fun h => by
      obtain ⟨a, b⟩ := f1 h
      have a0 : ¬ p1 < 0 := fun g => a (Int32.lt_trans g (by decide))
      obtain ⟨c, d, _⟩ := zd_rg (m := 5) (by decide) ⟨a0, b⟩
      refine ⟨?_, c, d⟩
      by_cases z : p1.toNatClampNeg = 0
      · rw [z] at d
        rw [d] at a
        exact absurd (by decide) a
      · omega
    refine ⟨⟨hk, rfl⟩, fun h8 => ?_, fun h => ⟨(q7 h).1, (q7 h).2.1⟩, fun h => (zd_rg (m := 3) (by decide) (f2 h)).1, fun h => (zd_rg (m := 7) (by decide) (f3 h)).1, fun h => ⟨(q1 h).1, (q3 h).1, (q3 h).2, (q1 h).2⟩, fun h => (zd_rg (m := 2) (by decide) (f6 h)).1, fun h => ⟨by rw [e0, if_pos h], ?_⟩, fun h => by rw [e0, if_neg h], fun h => ⟨?_, ?_⟩⟩
    · by_cases h7 : k = 7
      · exact (q7 h7).2.2
      · by_cases h9 : k = 9 ∨ k = 11
        · exact (zd_rg (m := 3) (by decide) (f2 h9)).2.1
        · exact (zd_rg (m := 7) (by decide) (f3 (by omega))).2.1
    · obtain ⟨a, b, _⟩ := zd_rg (m := 7) (by decide) (f3 (by omega))
      rw [e1, if_pos h, b, zn_b (by omega), ← b]; exact b
    · obtain ⟨b, a⟩ := q1 h
      rw [e1, if_neg (by omega), b, zn_b (by omega), ← b]; exact b
    · obtain ⟨b, a⟩ := q3 h
      rw [e3, b, zn_b (by omega), ← b]; exact b
  · have := hS i
    unfold zn_S at this ⊢
    rw [zd_un h, zd_un h, zd_un h, zd_un h, pk_un h, pk_un h, pk_un h, pk_un h, pk_un h, pk_un h, pk_un h]
    exact this
theorem i_vc_add {k : Nat} {u : SX} {v : SY} (I : i_Rel k u v) (hk : k + 5 ≤ 2560) (v1 : Int32) (v2 : Int32) (v3 : Int32) (v4 : Int32) : wpX_add (fun r u' => wpY_add (fun r' v' => r' = r ∧ i_Rel (k + 5) u' v') v v1 v2 v3 v4) u v1 v2 v3 v4 := by
  refine zz_el (P := fun u v => wpX_add (fun r u' => wpY_add (fun r' v' => r' = r ∧ i_Rel (k + 5) u' v') v v1 v2 v3 v4) u v1 v2 v3 v4) ?_ I
  intro n kd av bv cv xL xB xC xP xO xE xK xA xR xQ xk xf xs xt xv xb xc xw xi xm mem bk bT bc ent cs pv yN yP yk ya yb yc yv yV yC yO yL yR yr yw ym hn hS h1 h2
  have J : i_Rel (k + 5) (nI n, xB, xC, xP, xO, xE, xK, xA, xR, yP, yk, xf, xs, xt, yv, xb, xc, xw, xi, xm, mem, bk, bT, bc, ent, cs, yO) (nI n, yP, yk, ya, yb, yc, yv, yV, yC, yO, yL, yR, yr, yw, ym) := zz_in hn hS h1 h2
  by_cases h48 : n = 48
  · subst h48
    exact br_f (nI_nlt (Nat.le_refl _) (by omega)) (br_t rfl ⟨rfl, J⟩)
  · have lt : nI n < 48 := nI_lt (b := 48) (by omega) (by omega)
    have ne : ¬ nI n = 48 := fun h => h48 ((nI_eq (b := 48) (by omega) (by omega)).mp h)
    have vn : vp_in (nI n) 48 := vp_in_nI (by omega) (by omega)
    have cn : (nI n).toNatClampNeg = n := zn_cl (by omega)
    by_cases g0 : v1 < 0
    · exact br_t lt (br_t g0 (br_f ne (br_t g0 (br_t rfl ⟨rfl, J⟩))))
    · by_cases g11 : v1 ≤ 11
      · obtain ⟨q, hq, rfl⟩ := nI_of2 (n := 11) (M := 11) (by decide) g0 g11
        refine br_t lt (br_f g0 (br_t g11 (zd_x hq (fun hF => br_f (by decide) ⟨vn, ?_⟩) (fun hF => br_t rfl (br_f ne (zd_yk hq (fun h => absurd h hF) (fun _ => br_t rfl ⟨rfl, J⟩)))))))
        have fin : ∀ z0 z1 z3 : Int32, z0 = (if q = 0 then v3 else v2) → z1 = vp_nar .byte (if q = 0 then v2 else v3).toInt8.toInt32 → z3 = vp_nar .byte v4.toInt8.toInt32 → wpY_add (fun r' v' => r' = nI (n + 1) ∧ i_Rel (k + 5) (nI (n + 1), xB, xC, xP, xO, xE, xK, xA, xR, yP, upd yk n (nI q), upd xf n z0, upd xs n z1, upd xt n z3, yv, xb, xc, xw, xi, xm, mem, bk, bT, bc, ent, cs, yO) v') (nI n, yP, yk, ya, yb, yc, yv, yV, yC, yO, yL, yR, yr, yw, ym) (nI q) v2 v3 v4 := by
          intro z0 z1 z3 e0 e1 e3
          refine br_f ne (zd_yk hq (fun _ => br_f (by decide) ⟨vn, ?_⟩) (fun h => absurd hF h))
          rw [cn]
          exact nm_e ⟨vn, nm_e ⟨vn, nm_e ⟨vn, nm_e (nm_r (nI_1 n) ⟨rfl, zz_in (by omega) (zd_new hq hF hS e0 e1 e3) h1 h2⟩)⟩⟩⟩
        refine nm_r (e' := upd yk n (nI q)) (by rw [cn, zn_b (by omega)]) (pk_eq q 0 (fun e => ⟨vn, nm_r (e' := upd xf n v3) (by rw [cn]) (pk_eq q 0 (fun _ => ⟨vn, nm_r (e' := upd xs n (vp_nar .byte v2.toInt8.toInt32)) (by rw [cn]) ⟨vn, nm_r (e' := upd xt n (vp_nar .byte v4.toInt8.toInt32)) (by rw [cn]) (nm_r (nI_1 n) ?_)⟩⟩) (fun h => absurd e h))⟩) (fun e => ⟨vn, nm_r (e' := upd xf n v2) (by rw [cn]) (pk_eq q 0 (fun h => absurd h e) (fun _ => ⟨vn, nm_r (e' := upd xs n (vp_nar .byte v3.toInt8.toInt32)) (by rw [cn]) ⟨vn, nm_r (e' := upd xt n (vp_nar .byte v4.toInt8.toInt32)) (by rw [cn]) (nm_r (nI_1 n) ?_)⟩⟩))⟩))
        · exact fin _ _ _ (by rw [if_pos e]) (by rw [if_pos e]) rfl
        · exact fin _ _ _ (by rw [if_neg e]) (by rw [if_neg e]) rfl
      · exact br_t lt (br_f g0 (br_f g11 (br_f ne (br_f g0 (br_f g11 (br_t rfl ⟨rfl, J⟩))))))
end ZZ
end
