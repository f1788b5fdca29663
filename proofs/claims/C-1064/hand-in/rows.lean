section
/-! pure rows to paste: stores, nI and lN arithmetic, masks, shifts, narrowing, branches by naturals (pk_le, pk_lt, pk_eq), loops (lp1 .. lp16: the measure of the state; rp1 ..: recursion), negatives. Take what you need -/
theorem pk_us {f : Nat → Int32} {k : Nat} {x : Int32} : upd f k x k = x := if_pos rfl
theorem pk_un {f : Nat → Int32} {k j : Nat} {x : Int32} (h : j ≠ k) : upd f k x j = f j := if_neg h
theorem pk_uLs {f : Nat → Int64} {k : Nat} {x : Int64} : vp_updL f k x k = x := if_pos rfl
theorem pk_uLn {f : Nat → Int64} {k j : Nat} {x : Int64} (h : j ≠ k) : vp_updL f k x j = f j := if_neg h
theorem pk_sub {a b : Nat} (h : b ≤ a) : nI a - nI b = nI (a - b) := by
  obtain ⟨c, rfl⟩ : ∃ c, a = c + b := ⟨a - b, by omega⟩
  rw [← nI_add, Int32.add_sub_cancel, Nat.add_sub_cancel]
theorem pk_m1 (n : Nat) : nI (n + 1) + (-1) = nI n := by
  rw [← nI_1, Int32.add_assoc, show (1 : Int32) + (-1) = 0 from rfl, Int32.add_zero]
theorem pk_mul (a b : Nat) : nI a * nI b = nI (a * b) := (Int32.ofNat_mul a b).symm
theorem pk_div {a d : Nat} (ha : a < 2 ^ 31) (h0 : 0 < d) (hd : d < 2 ^ 31) : nI a / nI d = nI (a / d) := by
  apply Int32.toInt_inj.mp
  rw [lg_idiv_nonneg (by rw [nI_toInt ha]; omega) (by rw [nI_toInt hd]; omega), nI_toInt ha, nI_toInt hd, nI_toInt (Nat.lt_of_le_of_lt (Nat.div_le_self a d) ha)]
  first | rfl | exact (Int.natCast_ediv _ _).symm
theorem pk_rem {a d : Nat} (ha : a < 2 ^ 31) (h0 : 0 < d) (hd : d < 2 ^ 31) : nI a - nI a / nI d * nI d = nI (a % d) := by
  rw [pk_div ha h0 hd, pk_mul, pk_sub (Nat.div_mul_le_self a d)]
  exact congrArg nI (by have := Nat.div_add_mod' a d; omega)
theorem pk_sub_toInt {a b : Nat} (ha : a < 2 ^ 30) (hb : b < 2 ^ 30) : (nI a - nI b).toInt = (a : Int) - b := by
  rw [Int32.toInt_sub, nI_toInt (by omega), nI_toInt (by omega)]
  exact Int.bmod_eq_of_le (by omega) (by omega)
theorem pk_sneg {a b : Nat} (hb : b < 2 ^ 30) (h : a < b) : nI a - nI b < 0 := by
  rw [Int32.lt_iff_toInt_lt, pk_sub_toInt (by omega) hb, show (0 : Int32).toInt = 0 from by decide]
  omega
theorem pk_ix (x : Int32) {n : Nat} (hn : n < 2 ^ 31) : x < 0 ∨ nI n ≤ x ∨ ∃ j : Nat, j < n ∧ x = nI j := by
  by_cases h : x < 0
  · exact Or.inl h
  · obtain ⟨j, hj, rfl⟩ := nI_of h
    by_cases h2 : j < n
    · exact Or.inr (Or.inr ⟨j, h2, rfl⟩)
    · exact Or.inr (Or.inl (nI_le (by omega) hj))
theorem pk_le {x y : Int32} {A B : Prop} (a b : Nat) (f : a ≤ b → A) (g : b < a → B) (hx : x = nI a := by rfl) (hy : y = nI b := by rfl) (ha : a < 2 ^ 31 := by omega) (hb : b < 2 ^ 31 := by omega) : (x ≤ y → A) ∧ (¬ x ≤ y → B) := by
  subst hx hy
  rw [nI_leI ha hb]
  exact ⟨f, fun z => g (by omega)⟩
theorem pk_lt {x y : Int32} {A B : Prop} (a b : Nat) (f : a < b → A) (g : b ≤ a → B) (hx : x = nI a := by rfl) (hy : y = nI b := by rfl) (ha : a < 2 ^ 31 := by omega) (hb : b < 2 ^ 31 := by omega) : (x < y → A) ∧ (¬ x < y → B) := by
  subst hx hy
  rw [nI_ltI ha hb]
  exact ⟨f, fun z => g (by omega)⟩
theorem pk_eq {x y : Int32} {A B : Prop} (a b : Nat) (f : a = b → A) (g : a ≠ b → B) (hx : x = nI a := by rfl) (hy : y = nI b := by rfl) (ha : a < 2 ^ 31 := by omega) (hb : b < 2 ^ 31 := by omega) : (x = y → A) ∧ (¬ x = y → B) := by
  subst hx hy
  rw [nI_eq ha hb]
  exact ⟨f, g⟩
theorem pk_in {x : Int32} (n N : Nat) (h : n < N) (hx : x = nI n := by rfl) (hN : N < 2 ^ 31 := by omega) : vp_in x N := by
  subst hx
  exact vp_in_nI h hN
theorem pk_cl {x : Int32} (n : Nat) (hx : x = nI n := by rfl) (h : n < 2 ^ 31 := by omega) : x.toNatClampNeg = n := by
  subst hx
  exact nI_clamp h
theorem pk_tn {n : Nat} (h : n < 2 ^ 32) : (nI n).toBitVec.toNat = n := Nat.mod_eq_of_lt h
theorem pk_and (x : Int32) {m : Int32} (k : Nat) (hm : m.toBitVec.toNat = 2 ^ k - 1) : x &&& m = nI (x.toBitVec.toNat % 2 ^ k) := by
  apply Int32.toBitVec_inj.mp
  apply BitVec.eq_of_toNat_eq
  rw [Int32.toBitVec_and, BitVec.toNat_and, hm, Nat.and_two_pow_sub_one_eq_mod]
  show _ = (BitVec.ofNat 32 _).toNat
  rw [BitVec.toNat_ofNat]
  exact (Nat.mod_eq_of_lt (Nat.lt_of_le_of_lt (Nat.mod_le _ _) x.toBitVec.isLt)).symm
theorem pk_andN {n : Nat} (h : n < 2 ^ 32) {m : Int32} (k : Nat) (hm : m.toBitVec.toNat = 2 ^ k - 1) : nI n &&& m = nI (n % 2 ^ k) := by
  rw [pk_and _ k hm, pk_tn h]
theorem pk_andE (x : Int32) {m : Int32} (k : Nat) (hm : m.toBitVec.toNat = 2 ^ k - 1) : ∃ j : Nat, j < 2 ^ k ∧ x &&& m = nI j := ⟨_, Nat.mod_lt _ (Nat.two_pow_pos k), pk_and x k hm⟩
theorem pk_andIn (x : Int32) {m : Int32} (k : Nat) (hm : m.toBitVec.toNat = 2 ^ k - 1) (hk : k ≤ 30) : vp_in (x &&& m) (2 ^ k) := by
  obtain ⟨j, hj, e⟩ := pk_andE x k hm
  rw [e]
  exact vp_in_nI hj (Nat.lt_of_le_of_lt (Nat.pow_le_pow_right (by decide) hk) (by decide))
theorem pk_shl (a s : Int32) (k : Nat) (hs : (s.toBitVec.smod 32).toNat = k) : (a <<< s).toBitVec.toNat = a.toBitVec.toNat * 2 ^ k % 2 ^ 32 := by
  show (a.toBitVec <<< (s.toBitVec.smod 32).toNat).toNat = _
  rw [hs, BitVec.toNat_shiftLeft, Nat.shiftLeft_eq]
theorem pk_shlN {n : Nat} (s : Int32) (k : Nat) (hs : (s.toBitVec.smod 32).toNat = k) (h : n * 2 ^ k < 2 ^ 32) : nI n <<< s = nI (n * 2 ^ k) := by
  apply Int32.toBitVec_inj.mp
  apply BitVec.eq_of_toNat_eq
  have hn : n < 2 ^ 32 := Nat.lt_of_le_of_lt (Nat.le_mul_of_pos_right n (Nat.two_pow_pos k)) h
  rw [pk_shl _ _ k hs, pk_tn hn, pk_tn h, Nat.mod_eq_of_lt h]
theorem pk_shr (a s : Int32) (k : Nat) (hs : (s.toBitVec.smod 32).toNat = k) : (a >>> s).toInt = a.toInt >>> k := by
  show (a.toBitVec.sshiftRight (s.toBitVec.smod 32).toNat).toInt = _
  rw [hs, BitVec.toInt_sshiftRight]
  rfl
theorem pk_shrN {n : Nat} (h : n < 2 ^ 31) (s : Int32) (k : Nat) (hs : (s.toBitVec.smod 32).toNat = k) : nI n >>> s = nI (n / 2 ^ k) := by
  apply Int32.toInt_inj.mp
  have h2 : n / 2 ^ k ≤ n := Nat.div_le_self _ _
  rw [pk_shr _ _ k hs, nI_toInt h, nI_toInt (by omega), Int.shiftRight_eq_div_pow]
  rfl
theorem pk_ushr (x s : Int32) (k : Nat) (hs : ((s.toUInt32 &&& Int32.toUInt32 31).toBitVec % 32).toNat = k) : (x.toUInt32 >>> (s.toUInt32 &&& Int32.toUInt32 31)).toInt32.toBitVec.toNat = x.toBitVec.toNat / 2 ^ k := by
  have e : (x.toUInt32 >>> (s.toUInt32 &&& Int32.toUInt32 31)).toInt32.toBitVec = x.toBitVec >>> k := by
    rw [← hs]
    exact UInt32.toBitVec_shiftRight _ _
  rw [e, BitVec.toNat_ushiftRight, Nat.shiftRight_eq_div_pow]
theorem pk_ushrN {n : Nat} (hn : n < 2 ^ 32) (s : Int32) (k : Nat) (hs : ((s.toUInt32 &&& Int32.toUInt32 31).toBitVec % 32).toNat = k) : ((nI n).toUInt32 >>> (s.toUInt32 &&& Int32.toUInt32 31)).toInt32 = nI (n / 2 ^ k) := by
  apply Int32.toBitVec_inj.mp
  apply BitVec.eq_of_toNat_eq
  rw [pk_ushr _ s k hs, pk_tn hn, pk_tn (Nat.lt_of_le_of_lt (Nat.div_le_self _ _) hn)]
theorem pk_nb (z : Int32) : narrow .byte (.int z.toInt8.toInt32) = .int z.toInt8.toInt32 := congrArg Value.int (by simp)
theorem pk_ns (z : Int32) : narrow .short (.int z.toInt16.toInt32) = .int z.toInt16.toInt32 := congrArg Value.int (by simp)
theorem pk_fb (r : Int32) : fits .byte (.int r.toInt8.toInt32) = true := by
  have ⟨a, b⟩ := lg_i2b_range r
  have h1 : (-128 : Int32).toInt = -128 := by decide
  have h2 : (127 : Int32).toInt = 127 := by decide
  simp only [fits, Bool.and_eq_true, decide_eq_true_eq, Int32.le_iff_toInt_le, h1, h2]
  omega
theorem pk_fs (r : Int32) : fits .short (.int r.toInt16.toInt32) = true := by
  have ⟨a, b⟩ := lg_i2s_range r
  have h1 : (-32768 : Int32).toInt = -32768 := by decide
  have h2 : (32767 : Int32).toInt = 32767 := by decide
  simp only [fits, Bool.and_eq_true, decide_eq_true_eq, Int32.le_iff_toInt_le, h1, h2]
  omega
theorem pk_charN {q : Nat} (hq : q < 65536) : narrow .char (.int (nI q)) = .int (nI q) ∧ fits .char (.int (nI q)) = true := by
  constructor
  · have e : (nI q).toUInt32.toUInt16.toUInt32.toInt32 = nI q := by
      apply Int32.toBitVec_inj.mp
      apply BitVec.eq_of_toNat_eq
      show (nI q).toUInt32.toUInt16.toUInt32.toNat = q % 2 ^ 32
      rw [UInt16.toNat_toUInt32, UInt32.toNat_toUInt16, show (nI q).toUInt32.toNat = q % 2 ^ 32 from rfl]
      omega
    exact congrArg Value.int e
  · have a : (0 : Int32) ≤ nI q := nI_pos' (by omega)
    have b : nI q ≤ 65535 := nI_le (b := 65535) (by omega) (by decide)
    show (decide ((0 : Int32) ≤ nI q) && decide (nI q ≤ 65535)) = true
    rw [decide_eq_true a, decide_eq_true b]
    rfl
theorem pk_char (x : Int32) : (x.toUInt32 % 65536).toInt32 = nI (x.toBitVec.toNat % 65536) := by
  apply Int32.toBitVec_inj.mp
  apply BitVec.eq_of_toNat_eq
  rw [pk_tn (by omega)]
  show (x.toUInt32 % 65536).toNat = _
  rw [UInt32.toNat_mod]
  rfl
theorem pk_nc (x : Int32) : narrow .char (.int (x.toUInt32 % 65536).toInt32) = .int (x.toUInt32 % 65536).toInt32 := by
  rw [pk_char]
  exact (pk_charN (Nat.mod_lt _ (by decide))).1
theorem pk_fc (x : Int32) : fits .char (.int (x.toUInt32 % 65536).toInt32) = true := by
  rw [pk_char]
  exact (pk_charN (Nat.mod_lt _ (by decide))).2
theorem pk_vb (z : Int32) : vp_nar .byte z.toInt8.toInt32 = z.toInt8.toInt32 := by rw [vp_nar_byte]; simp
theorem pk_vs (z : Int32) : vp_nar .short z.toInt16.toInt32 = z.toInt16.toInt32 := by rw [vp_nar_short]; simp
theorem pk_vc (z : Int32) : vp_nar .char (z.toUInt32 % 65536).toInt32 = (z.toUInt32 % 65536).toInt32 := Value.int.inj (pk_nc z)
theorem pk_lT {n : Nat} (h : n < 2 ^ 63) : (lN n).toInt = (n : Int) := lg_ofNat_toInt h
theorem pk_lLT {a b : Nat} (ha : a < 2 ^ 63) (hb : b < 2 ^ 63) : lN a < lN b ↔ a < b := by
  rw [Int64.lt_iff_toInt_lt, pk_lT ha, pk_lT hb]; omega
theorem pk_lLE {a b : Nat} (ha : a < 2 ^ 63) (hb : b < 2 ^ 63) : lN a ≤ lN b ↔ a ≤ b := by
  rw [Int64.le_iff_toInt_le, pk_lT ha, pk_lT hb]; omega
theorem pk_lEQ {a b : Nat} (ha : a < 2 ^ 63) (hb : b < 2 ^ 63) : lN a = lN b ↔ a = b := by
  rw [← Int64.toInt_inj, pk_lT ha, pk_lT hb]; omega
theorem pk_lOf {x : Int64} (h : ¬ x < 0) : ∃ k : Nat, k < 2 ^ 63 ∧ x = lN k := by
  rw [Int64.lt_iff_toInt_lt] at h
  have h0 : (0 : Int64).toInt = 0 := by decide
  have hx := Int64.toInt_lt x
  refine ⟨x.toInt.toNat, by omega, Int64.toInt_inj.mp ?_⟩
  rw [pk_lT (by omega)]
  omega
theorem pk_lDiv {a b : Nat} (ha : a < 2 ^ 63) (h0 : 0 < b) (hb : b < 2 ^ 63) : lN a / lN b = lN (a / b) := by
  apply Int64.toInt_inj.mp
  rw [lg_ldiv_nonneg (by rw [pk_lT ha]; omega) (by rw [pk_lT hb]; omega), pk_lT ha, pk_lT hb, pk_lT (Nat.lt_of_le_of_lt (Nat.div_le_self a b) ha)]
  rfl
theorem pk_lRem {a b : Nat} (ha : a < 2 ^ 63) (h0 : 0 < b) (hb : b < 2 ^ 63) : lN a - lN a / lN b * lN b = lN (a % b) := by
  rw [pk_lDiv ha h0 hb, lN_mul, lN_sub (Nat.div_mul_le_self a b)]
  exact congrArg lN (by have := Nat.div_add_mod' a b; omega)
theorem pk_loop {σ : Type} (W : Nat → Nat → σ → Prop) (I : Nat → σ → Prop) (e i0 : Nat) (s : σ) (hi : i0 ≤ e) (h0 : I i0 s) (hx : ∀ n s, I e s → W (n + 1) e s)
    (hs : ∀ n i s, i < e → I i s → (∀ s', I (i + 1) s' → W n (i + 1) s') → W (n + 1) i s) : ∃ n, W n i0 s :=
  ⟨e + 1, loop_i W I e hx hs (e + 1) i0 s hi (by omega) h0⟩
theorem pk_loopD {σ : Type} (W : Nat → Nat → σ → Prop) (I : Nat → σ → Prop) (hx : ∀ n s, I 0 s → W (n + 1) 0 s)
    (hs : ∀ n i s, I (i + 1) s → (∀ s', I i s' → W n i s') → W (n + 1) (i + 1) s) : ∀ (e : Nat) (s : σ), I e s → W (e + 1) e s := by
  intro e
  induction e with
  | zero => exact fun s h => hx 0 s h
  | succ e ih => exact fun s h => hs (e + 1) e s h (fun s' h' => ih s' h')
theorem lp1 {A1 : Type} (W : Nat → A1 → Prop) (I : A1 → Prop) (μ : A1 → Nat) (hs : ∀ (n : Nat) (a1 : A1), I a1 → (∀ (b1 : A1), I b1 → μ b1 < μ a1 → W n b1) → W (n + 1) a1) (a1 : A1) (h : I a1) : ∃ n, W n a1 :=
  loop_m (σ := A1) (fun n s => W n s) (fun s => I s) (fun s => μ s) (fun n s hI hk => hs n s hI (fun b1 h9 hm => hk b1 h9 hm)) a1 h
theorem lp2 {A1 A2 : Type} (W : Nat → A1 → A2 → Prop) (I : A1 → A2 → Prop) (μ : A1 → A2 → Nat) (hs : ∀ (n : Nat) (a1 : A1) (a2 : A2), I a1 a2 → (∀ (b1 : A1) (b2 : A2), I b1 b2 → μ b1 b2 < μ a1 a2 → W n b1 b2) → W (n + 1) a1 a2) (a1 : A1) (a2 : A2) (h : I a1 a2) : ∃ n, W n a1 a2 :=
  loop_m (σ := A1 × A2) (fun n s => W n s.1 s.2) (fun s => I s.1 s.2) (fun s => μ s.1 s.2) (fun n s hI hk => hs n s.1 s.2 hI (fun b1 b2 h9 hm => hk (b1, b2) h9 hm)) (a1, a2) h
theorem lp3 {A1 A2 A3 : Type} (W : Nat → A1 → A2 → A3 → Prop) (I : A1 → A2 → A3 → Prop) (μ : A1 → A2 → A3 → Nat) (hs : ∀ (n : Nat) (a1 : A1) (a2 : A2) (a3 : A3), I a1 a2 a3 → (∀ (b1 : A1) (b2 : A2) (b3 : A3), I b1 b2 b3 → μ b1 b2 b3 < μ a1 a2 a3 → W n b1 b2 b3) → W (n + 1) a1 a2 a3) (a1 : A1) (a2 : A2) (a3 : A3) (h : I a1 a2 a3) : ∃ n, W n a1 a2 a3 :=
  loop_m (σ := A1 × A2 × A3) (fun n s => W n s.1 s.2.1 s.2.2) (fun s => I s.1 s.2.1 s.2.2) (fun s => μ s.1 s.2.1 s.2.2) (fun n s hI hk => hs n s.1 s.2.1 s.2.2 hI (fun b1 b2 b3 h9 hm => hk (b1, b2, b3) h9 hm)) (a1, a2, a3) h
theorem lp4 {A1 A2 A3 A4 : Type} (W : Nat → A1 → A2 → A3 → A4 → Prop) (I : A1 → A2 → A3 → A4 → Prop) (μ : A1 → A2 → A3 → A4 → Nat) (hs : ∀ (n : Nat) (a1 : A1) (a2 : A2) (a3 : A3) (a4 : A4), I a1 a2 a3 a4 → (∀ (b1 : A1) (b2 : A2) (b3 : A3) (b4 : A4), I b1 b2 b3 b4 → μ b1 b2 b3 b4 < μ a1 a2 a3 a4 → W n b1 b2 b3 b4) → W (n + 1) a1 a2 a3 a4) (a1 : A1) (a2 : A2) (a3 : A3) (a4 : A4) (h : I a1 a2 a3 a4) : ∃ n, W n a1 a2 a3 a4 :=
  loop_m (σ := A1 × A2 × A3 × A4) (fun n s => W n s.1 s.2.1 s.2.2.1 s.2.2.2) (fun s => I s.1 s.2.1 s.2.2.1 s.2.2.2) (fun s => μ s.1 s.2.1 s.2.2.1 s.2.2.2) (fun n s hI hk => hs n s.1 s.2.1 s.2.2.1 s.2.2.2 hI (fun b1 b2 b3 b4 h9 hm => hk (b1, b2, b3, b4) h9 hm)) (a1, a2, a3, a4) h
theorem lp5 {A1 A2 A3 A4 A5 : Type} (W : Nat → A1 → A2 → A3 → A4 → A5 → Prop) (I : A1 → A2 → A3 → A4 → A5 → Prop) (μ : A1 → A2 → A3 → A4 → A5 → Nat) (hs : ∀ (n : Nat) (a1 : A1) (a2 : A2) (a3 : A3) (a4 : A4) (a5 : A5), I a1 a2 a3 a4 a5 → (∀ (b1 : A1) (b2 : A2) (b3 : A3) (b4 : A4) (b5 : A5), I b1 b2 b3 b4 b5 → μ b1 b2 b3 b4 b5 < μ a1 a2 a3 a4 a5 → W n b1 b2 b3 b4 b5) → W (n + 1) a1 a2 a3 a4 a5) (a1 : A1) (a2 : A2) (a3 : A3) (a4 : A4) (a5 : A5) (h : I a1 a2 a3 a4 a5) : ∃ n, W n a1 a2 a3 a4 a5 :=
  loop_m (σ := A1 × A2 × A3 × A4 × A5) (fun n s => W n s.1 s.2.1 s.2.2.1 s.2.2.2.1 s.2.2.2.2) (fun s => I s.1 s.2.1 s.2.2.1 s.2.2.2.1 s.2.2.2.2) (fun s => μ s.1 s.2.1 s.2.2.1 s.2.2.2.1 s.2.2.2.2) (fun n s hI hk => hs n s.1 s.2.1 s.2.2.1 s.2.2.2.1 s.2.2.2.2 hI (fun b1 b2 b3 b4 b5 h9 hm => hk (b1, b2, b3, b4, b5) h9 hm)) (a1, a2, a3, a4, a5) h
theorem lp6 {A1 A2 A3 A4 A5 A6 : Type} (W : Nat → A1 → A2 → A3 → A4 → A5 → A6 → Prop) (I : A1 → A2 → A3 → A4 → A5 → A6 → Prop) (μ : A1 → A2 → A3 → A4 → A5 → A6 → Nat) (hs : ∀ (n : Nat) (a1 : A1) (a2 : A2) (a3 : A3) (a4 : A4) (a5 : A5) (a6 : A6), I a1 a2 a3 a4 a5 a6 → (∀ (b1 : A1) (b2 : A2) (b3 : A3) (b4 : A4) (b5 : A5) (b6 : A6), I b1 b2 b3 b4 b5 b6 → μ b1 b2 b3 b4 b5 b6 < μ a1 a2 a3 a4 a5 a6 → W n b1 b2 b3 b4 b5 b6) → W (n + 1) a1 a2 a3 a4 a5 a6) (a1 : A1) (a2 : A2) (a3 : A3) (a4 : A4) (a5 : A5) (a6 : A6) (h : I a1 a2 a3 a4 a5 a6) : ∃ n, W n a1 a2 a3 a4 a5 a6 :=
  loop_m (σ := A1 × A2 × A3 × A4 × A5 × A6) (fun n s => W n s.1 s.2.1 s.2.2.1 s.2.2.2.1 s.2.2.2.2.1 s.2.2.2.2.2) (fun s => I s.1 s.2.1 s.2.2.1 s.2.2.2.1 s.2.2.2.2.1 s.2.2.2.2.2) (fun s => μ s.1 s.2.1 s.2.2.1 s.2.2.2.1 s.2.2.2.2.1 s.2.2.2.2.2) (fun n s hI hk => hs n s.1 s.2.1 s.2.2.1 s.2.2.2.1 s.2.2.2.2.1 s.2.2.2.2.2 hI (fun b1 b2 b3 b4 b5 b6 h9 hm => hk (b1, b2, b3, b4, b5, b6) h9 hm)) (a1, a2, a3, a4, a5, a6) h
theorem lp7 {A1 A2 A3 A4 A5 A6 A7 : Type} (W : Nat → A1 → A2 → A3 → A4 → A5 → A6 → A7 → Prop) (I : A1 → A2 → A3 → A4 → A5 → A6 → A7 → Prop) (μ : A1 → A2 → A3 → A4 → A5 → A6 → A7 → Nat) (hs : ∀ (n : Nat) (a1 : A1) (a2 : A2) (a3 : A3) (a4 : A4) (a5 : A5) (a6 : A6) (a7 : A7), I a1 a2 a3 a4 a5 a6 a7 → (∀ (b1 : A1) (b2 : A2) (b3 : A3) (b4 : A4) (b5 : A5) (b6 : A6) (b7 : A7), I b1 b2 b3 b4 b5 b6 b7 → μ b1 b2 b3 b4 b5 b6 b7 < μ a1 a2 a3 a4 a5 a6 a7 → W n b1 b2 b3 b4 b5 b6 b7) → W (n + 1) a1 a2 a3 a4 a5 a6 a7) (a1 : A1) (a2 : A2) (a3 : A3) (a4 : A4) (a5 : A5) (a6 : A6) (a7 : A7) (h : I a1 a2 a3 a4 a5 a6 a7) : ∃ n, W n a1 a2 a3 a4 a5 a6 a7 :=
  loop_m (σ := A1 × A2 × A3 × A4 × A5 × A6 × A7) (fun n s => W n s.1 s.2.1 s.2.2.1 s.2.2.2.1 s.2.2.2.2.1 s.2.2.2.2.2.1 s.2.2.2.2.2.2) (fun s => I s.1 s.2.1 s.2.2.1 s.2.2.2.1 s.2.2.2.2.1 s.2.2.2.2.2.1 s.2.2.2.2.2.2) (fun s => μ s.1 s.2.1 s.2.2.1 s.2.2.2.1 s.2.2.2.2.1 s.2.2.2.2.2.1 s.2.2.2.2.2.2) (fun n s hI hk => hs n s.1 s.2.1 s.2.2.1 s.2.2.2.1 s.2.2.2.2.1 s.2.2.2.2.2.1 s.2.2.2.2.2.2 hI (fun b1 b2 b3 b4 b5 b6 b7 h9 hm => hk (b1, b2, b3, b4, b5, b6, b7) h9 hm)) (a1, a2, a3, a4, a5, a6, a7) h
theorem lp8 {A1 A2 A3 A4 A5 A6 A7 A8 : Type} (W : Nat → A1 → A2 → A3 → A4 → A5 → A6 → A7 → A8 → Prop) (I : A1 → A2 → A3 → A4 → A5 → A6 → A7 → A8 → Prop) (μ : A1 → A2 → A3 → A4 → A5 → A6 → A7 → A8 → Nat) (hs : ∀ (n : Nat) (a1 : A1) (a2 : A2) (a3 : A3) (a4 : A4) (a5 : A5) (a6 : A6) (a7 : A7) (a8 : A8), I a1 a2 a3 a4 a5 a6 a7 a8 → (∀ (b1 : A1) (b2 : A2) (b3 : A3) (b4 : A4) (b5 : A5) (b6 : A6) (b7 : A7) (b8 : A8), I b1 b2 b3 b4 b5 b6 b7 b8 → μ b1 b2 b3 b4 b5 b6 b7 b8 < μ a1 a2 a3 a4 a5 a6 a7 a8 → W n b1 b2 b3 b4 b5 b6 b7 b8) → W (n + 1) a1 a2 a3 a4 a5 a6 a7 a8) (a1 : A1) (a2 : A2) (a3 : A3) (a4 : A4) (a5 : A5) (a6 : A6) (a7 : A7) (a8 : A8) (h : I a1 a2 a3 a4 a5 a6 a7 a8) : ∃ n, W n a1 a2 a3 a4 a5 a6 a7 a8 :=
  loop_m (σ := A1 × A2 × A3 × A4 × A5 × A6 × A7 × A8) (fun n s => W n s.1 s.2.1 s.2.2.1 s.2.2.2.1 s.2.2.2.2.1 s.2.2.2.2.2.1 s.2.2.2.2.2.2.1 s.2.2.2.2.2.2.2) (fun s => I s.1 s.2.1 s.2.2.1 s.2.2.2.1 s.2.2.2.2.1 s.2.2.2.2.2.1 s.2.2.2.2.2.2.1 s.2.2.2.2.2.2.2) (fun s => μ s.1 s.2.1 s.2.2.1 s.2.2.2.1 s.2.2.2.2.1 s.2.2.2.2.2.1 s.2.2.2.2.2.2.1 s.2.2.2.2.2.2.2) (fun n s hI hk => hs n s.1 s.2.1 s.2.2.1 s.2.2.2.1 s.2.2.2.2.1 s.2.2.2.2.2.1 s.2.2.2.2.2.2.1 s.2.2.2.2.2.2.2 hI (fun b1 b2 b3 b4 b5 b6 b7 b8 h9 hm => hk (b1, b2, b3, b4, b5, b6, b7, b8) h9 hm)) (a1, a2, a3, a4, a5, a6, a7, a8) h
theorem lp9 {A1 A2 A3 A4 A5 A6 A7 A8 A9 : Type} (W : Nat → A1 → A2 → A3 → A4 → A5 → A6 → A7 → A8 → A9 → Prop) (I : A1 → A2 → A3 → A4 → A5 → A6 → A7 → A8 → A9 → Prop) (μ : A1 → A2 → A3 → A4 → A5 → A6 → A7 → A8 → A9 → Nat) (hs : ∀ (n : Nat) (a1 : A1) (a2 : A2) (a3 : A3) (a4 : A4) (a5 : A5) (a6 : A6) (a7 : A7) (a8 : A8) (a9 : A9), I a1 a2 a3 a4 a5 a6 a7 a8 a9 → (∀ (b1 : A1) (b2 : A2) (b3 : A3) (b4 : A4) (b5 : A5) (b6 : A6) (b7 : A7) (b8 : A8) (b9 : A9), I b1 b2 b3 b4 b5 b6 b7 b8 b9 → μ b1 b2 b3 b4 b5 b6 b7 b8 b9 < μ a1 a2 a3 a4 a5 a6 a7 a8 a9 → W n b1 b2 b3 b4 b5 b6 b7 b8 b9) → W (n + 1) a1 a2 a3 a4 a5 a6 a7 a8 a9) (a1 : A1) (a2 : A2) (a3 : A3) (a4 : A4) (a5 : A5) (a6 : A6) (a7 : A7) (a8 : A8) (a9 : A9) (h : I a1 a2 a3 a4 a5 a6 a7 a8 a9) : ∃ n, W n a1 a2 a3 a4 a5 a6 a7 a8 a9 :=
  loop_m (σ := A1 × A2 × A3 × A4 × A5 × A6 × A7 × A8 × A9) (fun n s => W n s.1 s.2.1 s.2.2.1 s.2.2.2.1 s.2.2.2.2.1 s.2.2.2.2.2.1 s.2.2.2.2.2.2.1 s.2.2.2.2.2.2.2.1 s.2.2.2.2.2.2.2.2) (fun s => I s.1 s.2.1 s.2.2.1 s.2.2.2.1 s.2.2.2.2.1 s.2.2.2.2.2.1 s.2.2.2.2.2.2.1 s.2.2.2.2.2.2.2.1 s.2.2.2.2.2.2.2.2) (fun s => μ s.1 s.2.1 s.2.2.1 s.2.2.2.1 s.2.2.2.2.1 s.2.2.2.2.2.1 s.2.2.2.2.2.2.1 s.2.2.2.2.2.2.2.1 s.2.2.2.2.2.2.2.2) (fun n s hI hk => hs n s.1 s.2.1 s.2.2.1 s.2.2.2.1 s.2.2.2.2.1 s.2.2.2.2.2.1 s.2.2.2.2.2.2.1 s.2.2.2.2.2.2.2.1 s.2.2.2.2.2.2.2.2 hI (fun b1 b2 b3 b4 b5 b6 b7 b8 b9 h9 hm => hk (b1, b2, b3, b4, b5, b6, b7, b8, b9) h9 hm)) (a1, a2, a3, a4, a5, a6, a7, a8, a9) h
theorem lp10 {A1 A2 A3 A4 A5 A6 A7 A8 A9 A10 : Type} (W : Nat → A1 → A2 → A3 → A4 → A5 → A6 → A7 → A8 → A9 → A10 → Prop) (I : A1 → A2 → A3 → A4 → A5 → A6 → A7 → A8 → A9 → A10 → Prop) (μ : A1 → A2 → A3 → A4 → A5 → A6 → A7 → A8 → A9 → A10 → Nat) (hs : ∀ (n : Nat) (a1 : A1) (a2 : A2) (a3 : A3) (a4 : A4) (a5 : A5) (a6 : A6) (a7 : A7) (a8 : A8) (a9 : A9) (a10 : A10), I a1 a2 a3 a4 a5 a6 a7 a8 a9 a10 → (∀ (b1 : A1) (b2 : A2) (b3 : A3) (b4 : A4) (b5 : A5) (b6 : A6) (b7 : A7) (b8 : A8) (b9 : A9) (b10 : A10), I b1 b2 b3 b4 b5 b6 b7 b8 b9 b10 → μ b1 b2 b3 b4 b5 b6 b7 b8 b9 b10 < μ a1 a2 a3 a4 a5 a6 a7 a8 a9 a10 → W n b1 b2 b3 b4 b5 b6 b7 b8 b9 b10) → W (n + 1) a1 a2 a3 a4 a5 a6 a7 a8 a9 a10) (a1 : A1) (a2 : A2) (a3 : A3) (a4 : A4) (a5 : A5) (a6 : A6) (a7 : A7) (a8 : A8) (a9 : A9) (a10 : A10) (h : I a1 a2 a3 a4 a5 a6 a7 a8 a9 a10) : ∃ n, W n a1 a2 a3 a4 a5 a6 a7 a8 a9 a10 :=
  loop_m (σ := A1 × A2 × A3 × A4 × A5 × A6 × A7 × A8 × A9 × A10) (fun n s => W n s.1 s.2.1 s.2.2.1 s.2.2.2.1 s.2.2.2.2.1 s.2.2.2.2.2.1 s.2.2.2.2.2.2.1 s.2.2.2.2.2.2.2.1 s.2.2.2.2.2.2.2.2.1 s.2.2.2.2.2.2.2.2.2) (fun s => I s.1 s.2.1 s.2.2.1 s.2.2.2.1 s.2.2.2.2.1 s.2.2.2.2.2.1 s.2.2.2.2.2.2.1 s.2.2.2.2.2.2.2.1 s.2.2.2.2.2.2.2.2.1 s.2.2.2.2.2.2.2.2.2) (fun s => μ s.1 s.2.1 s.2.2.1 s.2.2.2.1 s.2.2.2.2.1 s.2.2.2.2.2.1 s.2.2.2.2.2.2.1 s.2.2.2.2.2.2.2.1 s.2.2.2.2.2.2.2.2.1 s.2.2.2.2.2.2.2.2.2) (fun n s hI hk => hs n s.1 s.2.1 s.2.2.1 s.2.2.2.1 s.2.2.2.2.1 s.2.2.2.2.2.1 s.2.2.2.2.2.2.1 s.2.2.2.2.2.2.2.1 s.2.2.2.2.2.2.2.2.1 s.2.2.2.2.2.2.2.2.2 hI (fun b1 b2 b3 b4 b5 b6 b7 b8 b9 b10 h9 hm => hk (b1, b2, b3, b4, b5, b6, b7, b8, b9, b10) h9 hm)) (a1, a2, a3, a4, a5, a6, a7, a8, a9, a10) h
theorem lp11 {A1 A2 A3 A4 A5 A6 A7 A8 A9 A10 A11 : Type} (W : Nat → A1 → A2 → A3 → A4 → A5 → A6 → A7 → A8 → A9 → A10 → A11 → Prop) (I : A1 → A2 → A3 → A4 → A5 → A6 → A7 → A8 → A9 → A10 → A11 → Prop) (μ : A1 → A2 → A3 → A4 → A5 → A6 → A7 → A8 → A9 → A10 → A11 → Nat) (hs : ∀ (n : Nat) (a1 : A1) (a2 : A2) (a3 : A3) (a4 : A4) (a5 : A5) (a6 : A6) (a7 : A7) (a8 : A8) (a9 : A9) (a10 : A10) (a11 : A11), I a1 a2 a3 a4 a5 a6 a7 a8 a9 a10 a11 → (∀ (b1 : A1) (b2 : A2) (b3 : A3) (b4 : A4) (b5 : A5) (b6 : A6) (b7 : A7) (b8 : A8) (b9 : A9) (b10 : A10) (b11 : A11), I b1 b2 b3 b4 b5 b6 b7 b8 b9 b10 b11 → μ b1 b2 b3 b4 b5 b6 b7 b8 b9 b10 b11 < μ a1 a2 a3 a4 a5 a6 a7 a8 a9 a10 a11 → W n b1 b2 b3 b4 b5 b6 b7 b8 b9 b10 b11) → W (n + 1) a1 a2 a3 a4 a5 a6 a7 a8 a9 a10 a11) (a1 : A1) (a2 : A2) (a3 : A3) (a4 : A4) (a5 : A5) (a6 : A6) (a7 : A7) (a8 : A8) (a9 : A9) (a10 : A10) (a11 : A11) (h : I a1 a2 a3 a4 a5 a6 a7 a8 a9 a10 a11) : ∃ n, W n a1 a2 a3 a4 a5 a6 a7 a8 a9 a10 a11 :=
  loop_m (σ := A1 × A2 × A3 × A4 × A5 × A6 × A7 × A8 × A9 × A10 × A11) (fun n s => W n s.1 s.2.1 s.2.2.1 s.2.2.2.1 s.2.2.2.2.1 s.2.2.2.2.2.1 s.2.2.2.2.2.2.1 s.2.2.2.2.2.2.2.1 s.2.2.2.2.2.2.2.2.1 s.2.2.2.2.2.2.2.2.2.1 s.2.2.2.2.2.2.2.2.2.2) (fun s => I s.1 s.2.1 s.2.2.1 s.2.2.2.1 s.2.2.2.2.1 s.2.2.2.2.2.1 s.2.2.2.2.2.2.1 s.2.2.2.2.2.2.2.1 s.2.2.2.2.2.2.2.2.1 s.2.2.2.2.2.2.2.2.2.1 s.2.2.2.2.2.2.2.2.2.2) (fun s => μ s.1 s.2.1 s.2.2.1 s.2.2.2.1 s.2.2.2.2.1 s.2.2.2.2.2.1 s.2.2.2.2.2.2.1 s.2.2.2.2.2.2.2.1 s.2.2.2.2.2.2.2.2.1 s.2.2.2.2.2.2.2.2.2.1 s.2.2.2.2.2.2.2.2.2.2) (fun n s hI hk => hs n s.1 s.2.1 s.2.2.1 s.2.2.2.1 s.2.2.2.2.1 s.2.2.2.2.2.1 s.2.2.2.2.2.2.1 s.2.2.2.2.2.2.2.1 s.2.2.2.2.2.2.2.2.1 s.2.2.2.2.2.2.2.2.2.1 s.2.2.2.2.2.2.2.2.2.2 hI (fun b1 b2 b3 b4 b5 b6 b7 b8 b9 b10 b11 h9 hm => hk (b1, b2, b3, b4, b5, b6, b7, b8, b9, b10, b11) h9 hm)) (a1, a2, a3, a4, a5, a6, a7, a8, a9, a10, a11) h
theorem lp12 {A1 A2 A3 A4 A5 A6 A7 A8 A9 A10 A11 A12 : Type} (W : Nat → A1 → A2 → A3 → A4 → A5 → A6 → A7 → A8 → A9 → A10 → A11 → A12 → Prop) (I : A1 → A2 → A3 → A4 → A5 → A6 → A7 → A8 → A9 → A10 → A11 → A12 → Prop) (μ : A1 → A2 → A3 → A4 → A5 → A6 → A7 → A8 → A9 → A10 → A11 → A12 → Nat) (hs : ∀ (n : Nat) (a1 : A1) (a2 : A2) (a3 : A3) (a4 : A4) (a5 : A5) (a6 : A6) (a7 : A7) (a8 : A8) (a9 : A9) (a10 : A10) (a11 : A11) (a12 : A12), I a1 a2 a3 a4 a5 a6 a7 a8 a9 a10 a11 a12 → (∀ (b1 : A1) (b2 : A2) (b3 : A3) (b4 : A4) (b5 : A5) (b6 : A6) (b7 : A7) (b8 : A8) (b9 : A9) (b10 : A10) (b11 : A11) (b12 : A12), I b1 b2 b3 b4 b5 b6 b7 b8 b9 b10 b11 b12 → μ b1 b2 b3 b4 b5 b6 b7 b8 b9 b10 b11 b12 < μ a1 a2 a3 a4 a5 a6 a7 a8 a9 a10 a11 a12 → W n b1 b2 b3 b4 b5 b6 b7 b8 b9 b10 b11 b12) → W (n + 1) a1 a2 a3 a4 a5 a6 a7 a8 a9 a10 a11 a12) (a1 : A1) (a2 : A2) (a3 : A3) (a4 : A4) (a5 : A5) (a6 : A6) (a7 : A7) (a8 : A8) (a9 : A9) (a10 : A10) (a11 : A11) (a12 : A12) (h : I a1 a2 a3 a4 a5 a6 a7 a8 a9 a10 a11 a12) : ∃ n, W n a1 a2 a3 a4 a5 a6 a7 a8 a9 a10 a11 a12 :=
  loop_m (σ := A1 × A2 × A3 × A4 × A5 × A6 × A7 × A8 × A9 × A10 × A11 × A12) (fun n s => W n s.1 s.2.1 s.2.2.1 s.2.2.2.1 s.2.2.2.2.1 s.2.2.2.2.2.1 s.2.2.2.2.2.2.1 s.2.2.2.2.2.2.2.1 s.2.2.2.2.2.2.2.2.1 s.2.2.2.2.2.2.2.2.2.1 s.2.2.2.2.2.2.2.2.2.2.1 s.2.2.2.2.2.2.2.2.2.2.2) (fun s => I s.1 s.2.1 s.2.2.1 s.2.2.2.1 s.2.2.2.2.1 s.2.2.2.2.2.1 s.2.2.2.2.2.2.1 s.2.2.2.2.2.2.2.1 s.2.2.2.2.2.2.2.2.1 s.2.2.2.2.2.2.2.2.2.1 s.2.2.2.2.2.2.2.2.2.2.1 s.2.2.2.2.2.2.2.2.2.2.2) (fun s => μ s.1 s.2.1 s.2.2.1 s.2.2.2.1 s.2.2.2.2.1 s.2.2.2.2.2.1 s.2.2.2.2.2.2.1 s.2.2.2.2.2.2.2.1 s.2.2.2.2.2.2.2.2.1 s.2.2.2.2.2.2.2.2.2.1 s.2.2.2.2.2.2.2.2.2.2.1 s.2.2.2.2.2.2.2.2.2.2.2) (fun n s hI hk => hs n s.1 s.2.1 s.2.2.1 s.2.2.2.1 s.2.2.2.2.1 s.2.2.2.2.2.1 s.2.2.2.2.2.2.1 s.2.2.2.2.2.2.2.1 s.2.2.2.2.2.2.2.2.1 s.2.2.2.2.2.2.2.2.2.1 s.2.2.2.2.2.2.2.2.2.2.1 s.2.2.2.2.2.2.2.2.2.2.2 hI (fun b1 b2 b3 b4 b5 b6 b7 b8 b9 b10 b11 b12 h9 hm => hk (b1, b2, b3, b4, b5, b6, b7, b8, b9, b10, b11, b12) h9 hm)) (a1, a2, a3, a4, a5, a6, a7, a8, a9, a10, a11, a12) h
theorem lp13 {A1 A2 A3 A4 A5 A6 A7 A8 A9 A10 A11 A12 A13 : Type} (W : Nat → A1 → A2 → A3 → A4 → A5 → A6 → A7 → A8 → A9 → A10 → A11 → A12 → A13 → Prop) (I : A1 → A2 → A3 → A4 → A5 → A6 → A7 → A8 → A9 → A10 → A11 → A12 → A13 → Prop) (μ : A1 → A2 → A3 → A4 → A5 → A6 → A7 → A8 → A9 → A10 → A11 → A12 → A13 → Nat) (hs : ∀ (n : Nat) (a1 : A1) (a2 : A2) (a3 : A3) (a4 : A4) (a5 : A5) (a6 : A6) (a7 : A7) (a8 : A8) (a9 : A9) (a10 : A10) (a11 : A11) (a12 : A12) (a13 : A13), I a1 a2 a3 a4 a5 a6 a7 a8 a9 a10 a11 a12 a13 → (∀ (b1 : A1) (b2 : A2) (b3 : A3) (b4 : A4) (b5 : A5) (b6 : A6) (b7 : A7) (b8 : A8) (b9 : A9) (b10 : A10) (b11 : A11) (b12 : A12) (b13 : A13), I b1 b2 b3 b4 b5 b6 b7 b8 b9 b10 b11 b12 b13 → μ b1 b2 b3 b4 b5 b6 b7 b8 b9 b10 b11 b12 b13 < μ a1 a2 a3 a4 a5 a6 a7 a8 a9 a10 a11 a12 a13 → W n b1 b2 b3 b4 b5 b6 b7 b8 b9 b10 b11 b12 b13) → W (n + 1) a1 a2 a3 a4 a5 a6 a7 a8 a9 a10 a11 a12 a13) (a1 : A1) (a2 : A2) (a3 : A3) (a4 : A4) (a5 : A5) (a6 : A6) (a7 : A7) (a8 : A8) (a9 : A9) (a10 : A10) (a11 : A11) (a12 : A12) (a13 : A13) (h : I a1 a2 a3 a4 a5 a6 a7 a8 a9 a10 a11 a12 a13) : ∃ n, W n a1 a2 a3 a4 a5 a6 a7 a8 a9 a10 a11 a12 a13 :=
  loop_m (σ := A1 × A2 × A3 × A4 × A5 × A6 × A7 × A8 × A9 × A10 × A11 × A12 × A13) (fun n s => W n s.1 s.2.1 s.2.2.1 s.2.2.2.1 s.2.2.2.2.1 s.2.2.2.2.2.1 s.2.2.2.2.2.2.1 s.2.2.2.2.2.2.2.1 s.2.2.2.2.2.2.2.2.1 s.2.2.2.2.2.2.2.2.2.1 s.2.2.2.2.2.2.2.2.2.2.1 s.2.2.2.2.2.2.2.2.2.2.2.1 s.2.2.2.2.2.2.2.2.2.2.2.2) (fun s => I s.1 s.2.1 s.2.2.1 s.2.2.2.1 s.2.2.2.2.1 s.2.2.2.2.2.1 s.2.2.2.2.2.2.1 s.2.2.2.2.2.2.2.1 s.2.2.2.2.2.2.2.2.1 s.2.2.2.2.2.2.2.2.2.1 s.2.2.2.2.2.2.2.2.2.2.1 s.2.2.2.2.2.2.2.2.2.2.2.1 s.2.2.2.2.2.2.2.2.2.2.2.2) (fun s => μ s.1 s.2.1 s.2.2.1 s.2.2.2.1 s.2.2.2.2.1 s.2.2.2.2.2.1 s.2.2.2.2.2.2.1 s.2.2.2.2.2.2.2.1 s.2.2.2.2.2.2.2.2.1 s.2.2.2.2.2.2.2.2.2.1 s.2.2.2.2.2.2.2.2.2.2.1 s.2.2.2.2.2.2.2.2.2.2.2.1 s.2.2.2.2.2.2.2.2.2.2.2.2) (fun n s hI hk => hs n s.1 s.2.1 s.2.2.1 s.2.2.2.1 s.2.2.2.2.1 s.2.2.2.2.2.1 s.2.2.2.2.2.2.1 s.2.2.2.2.2.2.2.1 s.2.2.2.2.2.2.2.2.1 s.2.2.2.2.2.2.2.2.2.1 s.2.2.2.2.2.2.2.2.2.2.1 s.2.2.2.2.2.2.2.2.2.2.2.1 s.2.2.2.2.2.2.2.2.2.2.2.2 hI (fun b1 b2 b3 b4 b5 b6 b7 b8 b9 b10 b11 b12 b13 h9 hm => hk (b1, b2, b3, b4, b5, b6, b7, b8, b9, b10, b11, b12, b13) h9 hm)) (a1, a2, a3, a4, a5, a6, a7, a8, a9, a10, a11, a12, a13) h
theorem lp14 {A1 A2 A3 A4 A5 A6 A7 A8 A9 A10 A11 A12 A13 A14 : Type} (W : Nat → A1 → A2 → A3 → A4 → A5 → A6 → A7 → A8 → A9 → A10 → A11 → A12 → A13 → A14 → Prop) (I : A1 → A2 → A3 → A4 → A5 → A6 → A7 → A8 → A9 → A10 → A11 → A12 → A13 → A14 → Prop) (μ : A1 → A2 → A3 → A4 → A5 → A6 → A7 → A8 → A9 → A10 → A11 → A12 → A13 → A14 → Nat) (hs : ∀ (n : Nat) (a1 : A1) (a2 : A2) (a3 : A3) (a4 : A4) (a5 : A5) (a6 : A6) (a7 : A7) (a8 : A8) (a9 : A9) (a10 : A10) (a11 : A11) (a12 : A12) (a13 : A13) (a14 : A14), I a1 a2 a3 a4 a5 a6 a7 a8 a9 a10 a11 a12 a13 a14 → (∀ (b1 : A1) (b2 : A2) (b3 : A3) (b4 : A4) (b5 : A5) (b6 : A6) (b7 : A7) (b8 : A8) (b9 : A9) (b10 : A10) (b11 : A11) (b12 : A12) (b13 : A13) (b14 : A14), I b1 b2 b3 b4 b5 b6 b7 b8 b9 b10 b11 b12 b13 b14 → μ b1 b2 b3 b4 b5 b6 b7 b8 b9 b10 b11 b12 b13 b14 < μ a1 a2 a3 a4 a5 a6 a7 a8 a9 a10 a11 a12 a13 a14 → W n b1 b2 b3 b4 b5 b6 b7 b8 b9 b10 b11 b12 b13 b14) → W (n + 1) a1 a2 a3 a4 a5 a6 a7 a8 a9 a10 a11 a12 a13 a14) (a1 : A1) (a2 : A2) (a3 : A3) (a4 : A4) (a5 : A5) (a6 : A6) (a7 : A7) (a8 : A8) (a9 : A9) (a10 : A10) (a11 : A11) (a12 : A12) (a13 : A13) (a14 : A14) (h : I a1 a2 a3 a4 a5 a6 a7 a8 a9 a10 a11 a12 a13 a14) : ∃ n, W n a1 a2 a3 a4 a5 a6 a7 a8 a9 a10 a11 a12 a13 a14 :=
  loop_m (σ := A1 × A2 × A3 × A4 × A5 × A6 × A7 × A8 × A9 × A10 × A11 × A12 × A13 × A14) (fun n s => W n s.1 s.2.1 s.2.2.1 s.2.2.2.1 s.2.2.2.2.1 s.2.2.2.2.2.1 s.2.2.2.2.2.2.1 s.2.2.2.2.2.2.2.1 s.2.2.2.2.2.2.2.2.1 s.2.2.2.2.2.2.2.2.2.1 s.2.2.2.2.2.2.2.2.2.2.1 s.2.2.2.2.2.2.2.2.2.2.2.1 s.2.2.2.2.2.2.2.2.2.2.2.2.1 s.2.2.2.2.2.2.2.2.2.2.2.2.2) (fun s => I s.1 s.2.1 s.2.2.1 s.2.2.2.1 s.2.2.2.2.1 s.2.2.2.2.2.1 s.2.2.2.2.2.2.1 s.2.2.2.2.2.2.2.1 s.2.2.2.2.2.2.2.2.1 s.2.2.2.2.2.2.2.2.2.1 s.2.2.2.2.2.2.2.2.2.2.1 s.2.2.2.2.2.2.2.2.2.2.2.1 s.2.2.2.2.2.2.2.2.2.2.2.2.1 s.2.2.2.2.2.2.2.2.2.2.2.2.2) (fun s => μ s.1 s.2.1 s.2.2.1 s.2.2.2.1 s.2.2.2.2.1 s.2.2.2.2.2.1 s.2.2.2.2.2.2.1 s.2.2.2.2.2.2.2.1 s.2.2.2.2.2.2.2.2.1 s.2.2.2.2.2.2.2.2.2.1 s.2.2.2.2.2.2.2.2.2.2.1 s.2.2.2.2.2.2.2.2.2.2.2.1 s.2.2.2.2.2.2.2.2.2.2.2.2.1 s.2.2.2.2.2.2.2.2.2.2.2.2.2) (fun n s hI hk => hs n s.1 s.2.1 s.2.2.1 s.2.2.2.1 s.2.2.2.2.1 s.2.2.2.2.2.1 s.2.2.2.2.2.2.1 s.2.2.2.2.2.2.2.1 s.2.2.2.2.2.2.2.2.1 s.2.2.2.2.2.2.2.2.2.1 s.2.2.2.2.2.2.2.2.2.2.1 s.2.2.2.2.2.2.2.2.2.2.2.1 s.2.2.2.2.2.2.2.2.2.2.2.2.1 s.2.2.2.2.2.2.2.2.2.2.2.2.2 hI (fun b1 b2 b3 b4 b5 b6 b7 b8 b9 b10 b11 b12 b13 b14 h9 hm => hk (b1, b2, b3, b4, b5, b6, b7, b8, b9, b10, b11, b12, b13, b14) h9 hm)) (a1, a2, a3, a4, a5, a6, a7, a8, a9, a10, a11, a12, a13, a14) h
theorem lp15 {A1 A2 A3 A4 A5 A6 A7 A8 A9 A10 A11 A12 A13 A14 A15 : Type} (W : Nat → A1 → A2 → A3 → A4 → A5 → A6 → A7 → A8 → A9 → A10 → A11 → A12 → A13 → A14 → A15 → Prop) (I : A1 → A2 → A3 → A4 → A5 → A6 → A7 → A8 → A9 → A10 → A11 → A12 → A13 → A14 → A15 → Prop) (μ : A1 → A2 → A3 → A4 → A5 → A6 → A7 → A8 → A9 → A10 → A11 → A12 → A13 → A14 → A15 → Nat) (hs : ∀ (n : Nat) (a1 : A1) (a2 : A2) (a3 : A3) (a4 : A4) (a5 : A5) (a6 : A6) (a7 : A7) (a8 : A8) (a9 : A9) (a10 : A10) (a11 : A11) (a12 : A12) (a13 : A13) (a14 : A14) (a15 : A15), I a1 a2 a3 a4 a5 a6 a7 a8 a9 a10 a11 a12 a13 a14 a15 → (∀ (b1 : A1) (b2 : A2) (b3 : A3) (b4 : A4) (b5 : A5) (b6 : A6) (b7 : A7) (b8 : A8) (b9 : A9) (b10 : A10) (b11 : A11) (b12 : A12) (b13 : A13) (b14 : A14) (b15 : A15), I b1 b2 b3 b4 b5 b6 b7 b8 b9 b10 b11 b12 b13 b14 b15 → μ b1 b2 b3 b4 b5 b6 b7 b8 b9 b10 b11 b12 b13 b14 b15 < μ a1 a2 a3 a4 a5 a6 a7 a8 a9 a10 a11 a12 a13 a14 a15 → W n b1 b2 b3 b4 b5 b6 b7 b8 b9 b10 b11 b12 b13 b14 b15) → W (n + 1) a1 a2 a3 a4 a5 a6 a7 a8 a9 a10 a11 a12 a13 a14 a15) (a1 : A1) (a2 : A2) (a3 : A3) (a4 : A4) (a5 : A5) (a6 : A6) (a7 : A7) (a8 : A8) (a9 : A9) (a10 : A10) (a11 : A11) (a12 : A12) (a13 : A13) (a14 : A14) (a15 : A15) (h : I a1 a2 a3 a4 a5 a6 a7 a8 a9 a10 a11 a12 a13 a14 a15) : ∃ n, W n a1 a2 a3 a4 a5 a6 a7 a8 a9 a10 a11 a12 a13 a14 a15 :=
  loop_m (σ := A1 × A2 × A3 × A4 × A5 × A6 × A7 × A8 × A9 × A10 × A11 × A12 × A13 × A14 × A15) (fun n s => W n s.1 s.2.1 s.2.2.1 s.2.2.2.1 s.2.2.2.2.1 s.2.2.2.2.2.1 s.2.2.2.2.2.2.1 s.2.2.2.2.2.2.2.1 s.2.2.2.2.2.2.2.2.1 s.2.2.2.2.2.2.2.2.2.1 s.2.2.2.2.2.2.2.2.2.2.1 s.2.2.2.2.2.2.2.2.2.2.2.1 s.2.2.2.2.2.2.2.2.2.2.2.2.1 s.2.2.2.2.2.2.2.2.2.2.2.2.2.1 s.2.2.2.2.2.2.2.2.2.2.2.2.2.2) (fun s => I s.1 s.2.1 s.2.2.1 s.2.2.2.1 s.2.2.2.2.1 s.2.2.2.2.2.1 s.2.2.2.2.2.2.1 s.2.2.2.2.2.2.2.1 s.2.2.2.2.2.2.2.2.1 s.2.2.2.2.2.2.2.2.2.1 s.2.2.2.2.2.2.2.2.2.2.1 s.2.2.2.2.2.2.2.2.2.2.2.1 s.2.2.2.2.2.2.2.2.2.2.2.2.1 s.2.2.2.2.2.2.2.2.2.2.2.2.2.1 s.2.2.2.2.2.2.2.2.2.2.2.2.2.2) (fun s => μ s.1 s.2.1 s.2.2.1 s.2.2.2.1 s.2.2.2.2.1 s.2.2.2.2.2.1 s.2.2.2.2.2.2.1 s.2.2.2.2.2.2.2.1 s.2.2.2.2.2.2.2.2.1 s.2.2.2.2.2.2.2.2.2.1 s.2.2.2.2.2.2.2.2.2.2.1 s.2.2.2.2.2.2.2.2.2.2.2.1 s.2.2.2.2.2.2.2.2.2.2.2.2.1 s.2.2.2.2.2.2.2.2.2.2.2.2.2.1 s.2.2.2.2.2.2.2.2.2.2.2.2.2.2) (fun n s hI hk => hs n s.1 s.2.1 s.2.2.1 s.2.2.2.1 s.2.2.2.2.1 s.2.2.2.2.2.1 s.2.2.2.2.2.2.1 s.2.2.2.2.2.2.2.1 s.2.2.2.2.2.2.2.2.1 s.2.2.2.2.2.2.2.2.2.1 s.2.2.2.2.2.2.2.2.2.2.1 s.2.2.2.2.2.2.2.2.2.2.2.1 s.2.2.2.2.2.2.2.2.2.2.2.2.1 s.2.2.2.2.2.2.2.2.2.2.2.2.2.1 s.2.2.2.2.2.2.2.2.2.2.2.2.2.2 hI (fun b1 b2 b3 b4 b5 b6 b7 b8 b9 b10 b11 b12 b13 b14 b15 h9 hm => hk (b1, b2, b3, b4, b5, b6, b7, b8, b9, b10, b11, b12, b13, b14, b15) h9 hm)) (a1, a2, a3, a4, a5, a6, a7, a8, a9, a10, a11, a12, a13, a14, a15) h
theorem lp16 {A1 A2 A3 A4 A5 A6 A7 A8 A9 A10 A11 A12 A13 A14 A15 A16 : Type} (W : Nat → A1 → A2 → A3 → A4 → A5 → A6 → A7 → A8 → A9 → A10 → A11 → A12 → A13 → A14 → A15 → A16 → Prop) (I : A1 → A2 → A3 → A4 → A5 → A6 → A7 → A8 → A9 → A10 → A11 → A12 → A13 → A14 → A15 → A16 → Prop) (μ : A1 → A2 → A3 → A4 → A5 → A6 → A7 → A8 → A9 → A10 → A11 → A12 → A13 → A14 → A15 → A16 → Nat) (hs : ∀ (n : Nat) (a1 : A1) (a2 : A2) (a3 : A3) (a4 : A4) (a5 : A5) (a6 : A6) (a7 : A7) (a8 : A8) (a9 : A9) (a10 : A10) (a11 : A11) (a12 : A12) (a13 : A13) (a14 : A14) (a15 : A15) (a16 : A16), I a1 a2 a3 a4 a5 a6 a7 a8 a9 a10 a11 a12 a13 a14 a15 a16 → (∀ (b1 : A1) (b2 : A2) (b3 : A3) (b4 : A4) (b5 : A5) (b6 : A6) (b7 : A7) (b8 : A8) (b9 : A9) (b10 : A10) (b11 : A11) (b12 : A12) (b13 : A13) (b14 : A14) (b15 : A15) (b16 : A16), I b1 b2 b3 b4 b5 b6 b7 b8 b9 b10 b11 b12 b13 b14 b15 b16 → μ b1 b2 b3 b4 b5 b6 b7 b8 b9 b10 b11 b12 b13 b14 b15 b16 < μ a1 a2 a3 a4 a5 a6 a7 a8 a9 a10 a11 a12 a13 a14 a15 a16 → W n b1 b2 b3 b4 b5 b6 b7 b8 b9 b10 b11 b12 b13 b14 b15 b16) → W (n + 1) a1 a2 a3 a4 a5 a6 a7 a8 a9 a10 a11 a12 a13 a14 a15 a16) (a1 : A1) (a2 : A2) (a3 : A3) (a4 : A4) (a5 : A5) (a6 : A6) (a7 : A7) (a8 : A8) (a9 : A9) (a10 : A10) (a11 : A11) (a12 : A12) (a13 : A13) (a14 : A14) (a15 : A15) (a16 : A16) (h : I a1 a2 a3 a4 a5 a6 a7 a8 a9 a10 a11 a12 a13 a14 a15 a16) : ∃ n, W n a1 a2 a3 a4 a5 a6 a7 a8 a9 a10 a11 a12 a13 a14 a15 a16 :=
  loop_m (σ := A1 × A2 × A3 × A4 × A5 × A6 × A7 × A8 × A9 × A10 × A11 × A12 × A13 × A14 × A15 × A16) (fun n s => W n s.1 s.2.1 s.2.2.1 s.2.2.2.1 s.2.2.2.2.1 s.2.2.2.2.2.1 s.2.2.2.2.2.2.1 s.2.2.2.2.2.2.2.1 s.2.2.2.2.2.2.2.2.1 s.2.2.2.2.2.2.2.2.2.1 s.2.2.2.2.2.2.2.2.2.2.1 s.2.2.2.2.2.2.2.2.2.2.2.1 s.2.2.2.2.2.2.2.2.2.2.2.2.1 s.2.2.2.2.2.2.2.2.2.2.2.2.2.1 s.2.2.2.2.2.2.2.2.2.2.2.2.2.2.1 s.2.2.2.2.2.2.2.2.2.2.2.2.2.2.2) (fun s => I s.1 s.2.1 s.2.2.1 s.2.2.2.1 s.2.2.2.2.1 s.2.2.2.2.2.1 s.2.2.2.2.2.2.1 s.2.2.2.2.2.2.2.1 s.2.2.2.2.2.2.2.2.1 s.2.2.2.2.2.2.2.2.2.1 s.2.2.2.2.2.2.2.2.2.2.1 s.2.2.2.2.2.2.2.2.2.2.2.1 s.2.2.2.2.2.2.2.2.2.2.2.2.1 s.2.2.2.2.2.2.2.2.2.2.2.2.2.1 s.2.2.2.2.2.2.2.2.2.2.2.2.2.2.1 s.2.2.2.2.2.2.2.2.2.2.2.2.2.2.2) (fun s => μ s.1 s.2.1 s.2.2.1 s.2.2.2.1 s.2.2.2.2.1 s.2.2.2.2.2.1 s.2.2.2.2.2.2.1 s.2.2.2.2.2.2.2.1 s.2.2.2.2.2.2.2.2.1 s.2.2.2.2.2.2.2.2.2.1 s.2.2.2.2.2.2.2.2.2.2.1 s.2.2.2.2.2.2.2.2.2.2.2.1 s.2.2.2.2.2.2.2.2.2.2.2.2.1 s.2.2.2.2.2.2.2.2.2.2.2.2.2.1 s.2.2.2.2.2.2.2.2.2.2.2.2.2.2.1 s.2.2.2.2.2.2.2.2.2.2.2.2.2.2.2) (fun n s hI hk => hs n s.1 s.2.1 s.2.2.1 s.2.2.2.1 s.2.2.2.2.1 s.2.2.2.2.2.1 s.2.2.2.2.2.2.1 s.2.2.2.2.2.2.2.1 s.2.2.2.2.2.2.2.2.1 s.2.2.2.2.2.2.2.2.2.1 s.2.2.2.2.2.2.2.2.2.2.1 s.2.2.2.2.2.2.2.2.2.2.2.1 s.2.2.2.2.2.2.2.2.2.2.2.2.1 s.2.2.2.2.2.2.2.2.2.2.2.2.2.1 s.2.2.2.2.2.2.2.2.2.2.2.2.2.2.1 s.2.2.2.2.2.2.2.2.2.2.2.2.2.2.2 hI (fun b1 b2 b3 b4 b5 b6 b7 b8 b9 b10 b11 b12 b13 b14 b15 b16 h9 hm => hk (b1, b2, b3, b4, b5, b6, b7, b8, b9, b10, b11, b12, b13, b14, b15, b16) h9 hm)) (a1, a2, a3, a4, a5, a6, a7, a8, a9, a10, a11, a12, a13, a14, a15, a16) h
theorem pk_least (P : Nat → Prop) (h : ∃ k, P k) : ∃ k, P k ∧ ∀ j, j < k → ¬ P j := by
  obtain ⟨k, hk⟩ := h
  induction k using Nat.strongRecOn with
  | ind k ih =>
    by_cases e : ∃ j, j < k ∧ P j
    · obtain ⟨j, hj, pj⟩ := e
      exact ih j hj pj
    · exact ⟨k, hk, fun j hj pj => e ⟨j, hj, pj⟩⟩
theorem rp1 {ρ A1 : Type} (W : Nat → (ρ → Prop) → A1 → Prop) (ok : A1 → Prop) (μ : A1 → Nat) (val : A1 → ρ)
    (hs : ∀ (d : Nat) (post : ρ → Prop) (a1 : A1), ok a1 → post (val a1) → (∀ (post' : ρ → Prop) (b1 : A1), ok b1 → μ b1 < μ a1 → post' (val b1) → W d post' b1) → W (d + 1) post a1) :
    ∀ (d : Nat) (post : ρ → Prop) (a1 : A1), ok a1 → μ a1 < d → post (val a1) → W d post a1 := by
  intro d
  induction d with
  | zero => intro post a1 _ h; omega
  | succ d ih =>
    intro post a1 ho hm hp
    exact hs d post a1 ho hp (fun post' b1 ho' hm' hp' => ih post' b1 ho' (by omega) hp')
theorem rp2 {ρ A1 A2 : Type} (W : Nat → (ρ → Prop) → A1 → A2 → Prop) (ok : A1 → A2 → Prop) (μ : A1 → A2 → Nat) (val : A1 → A2 → ρ)
    (hs : ∀ (d : Nat) (post : ρ → Prop) (a1 : A1) (a2 : A2), ok a1 a2 → post (val a1 a2) → (∀ (post' : ρ → Prop) (b1 : A1) (b2 : A2), ok b1 b2 → μ b1 b2 < μ a1 a2 → post' (val b1 b2) → W d post' b1 b2) → W (d + 1) post a1 a2) :
    ∀ (d : Nat) (post : ρ → Prop) (a1 : A1) (a2 : A2), ok a1 a2 → μ a1 a2 < d → post (val a1 a2) → W d post a1 a2 := by
  intro d
  induction d with
  | zero => intro post a1 a2 _ h; omega
  | succ d ih =>
    intro post a1 a2 ho hm hp
    exact hs d post a1 a2 ho hp (fun post' b1 b2 ho' hm' hp' => ih post' b1 b2 ho' (by omega) hp')
theorem rp3 {ρ A1 A2 A3 : Type} (W : Nat → (ρ → Prop) → A1 → A2 → A3 → Prop) (ok : A1 → A2 → A3 → Prop) (μ : A1 → A2 → A3 → Nat) (val : A1 → A2 → A3 → ρ)
    (hs : ∀ (d : Nat) (post : ρ → Prop) (a1 : A1) (a2 : A2) (a3 : A3), ok a1 a2 a3 → post (val a1 a2 a3) → (∀ (post' : ρ → Prop) (b1 : A1) (b2 : A2) (b3 : A3), ok b1 b2 b3 → μ b1 b2 b3 < μ a1 a2 a3 → post' (val b1 b2 b3) → W d post' b1 b2 b3) → W (d + 1) post a1 a2 a3) :
    ∀ (d : Nat) (post : ρ → Prop) (a1 : A1) (a2 : A2) (a3 : A3), ok a1 a2 a3 → μ a1 a2 a3 < d → post (val a1 a2 a3) → W d post a1 a2 a3 := by
  intro d
  induction d with
  | zero => intro post a1 a2 a3 _ h; omega
  | succ d ih =>
    intro post a1 a2 a3 ho hm hp
    exact hs d post a1 a2 a3 ho hp (fun post' b1 b2 b3 ho' hm' hp' => ih post' b1 b2 b3 ho' (by omega) hp')
theorem rp4 {ρ A1 A2 A3 A4 : Type} (W : Nat → (ρ → Prop) → A1 → A2 → A3 → A4 → Prop) (ok : A1 → A2 → A3 → A4 → Prop) (μ : A1 → A2 → A3 → A4 → Nat) (val : A1 → A2 → A3 → A4 → ρ)
    (hs : ∀ (d : Nat) (post : ρ → Prop) (a1 : A1) (a2 : A2) (a3 : A3) (a4 : A4), ok a1 a2 a3 a4 → post (val a1 a2 a3 a4) → (∀ (post' : ρ → Prop) (b1 : A1) (b2 : A2) (b3 : A3) (b4 : A4), ok b1 b2 b3 b4 → μ b1 b2 b3 b4 < μ a1 a2 a3 a4 → post' (val b1 b2 b3 b4) → W d post' b1 b2 b3 b4) → W (d + 1) post a1 a2 a3 a4) :
    ∀ (d : Nat) (post : ρ → Prop) (a1 : A1) (a2 : A2) (a3 : A3) (a4 : A4), ok a1 a2 a3 a4 → μ a1 a2 a3 a4 < d → post (val a1 a2 a3 a4) → W d post a1 a2 a3 a4 := by
  intro d
  induction d with
  | zero => intro post a1 a2 a3 a4 _ h; omega
  | succ d ih =>
    intro post a1 a2 a3 a4 ho hm hp
    exact hs d post a1 a2 a3 a4 ho hp (fun post' b1 b2 b3 b4 ho' hm' hp' => ih post' b1 b2 b3 b4 ho' (by omega) hp')
theorem rp5 {ρ A1 A2 A3 A4 A5 : Type} (W : Nat → (ρ → Prop) → A1 → A2 → A3 → A4 → A5 → Prop) (ok : A1 → A2 → A3 → A4 → A5 → Prop) (μ : A1 → A2 → A3 → A4 → A5 → Nat) (val : A1 → A2 → A3 → A4 → A5 → ρ)
    (hs : ∀ (d : Nat) (post : ρ → Prop) (a1 : A1) (a2 : A2) (a3 : A3) (a4 : A4) (a5 : A5), ok a1 a2 a3 a4 a5 → post (val a1 a2 a3 a4 a5) → (∀ (post' : ρ → Prop) (b1 : A1) (b2 : A2) (b3 : A3) (b4 : A4) (b5 : A5), ok b1 b2 b3 b4 b5 → μ b1 b2 b3 b4 b5 < μ a1 a2 a3 a4 a5 → post' (val b1 b2 b3 b4 b5) → W d post' b1 b2 b3 b4 b5) → W (d + 1) post a1 a2 a3 a4 a5) :
    ∀ (d : Nat) (post : ρ → Prop) (a1 : A1) (a2 : A2) (a3 : A3) (a4 : A4) (a5 : A5), ok a1 a2 a3 a4 a5 → μ a1 a2 a3 a4 a5 < d → post (val a1 a2 a3 a4 a5) → W d post a1 a2 a3 a4 a5 := by
  intro d
  induction d with
  | zero => intro post a1 a2 a3 a4 a5 _ h; omega
  | succ d ih =>
    intro post a1 a2 a3 a4 a5 ho hm hp
    exact hs d post a1 a2 a3 a4 a5 ho hp (fun post' b1 b2 b3 b4 b5 ho' hm' hp' => ih post' b1 b2 b3 b4 b5 ho' (by omega) hp')
theorem rp6 {ρ A1 A2 A3 A4 A5 A6 : Type} (W : Nat → (ρ → Prop) → A1 → A2 → A3 → A4 → A5 → A6 → Prop) (ok : A1 → A2 → A3 → A4 → A5 → A6 → Prop) (μ : A1 → A2 → A3 → A4 → A5 → A6 → Nat) (val : A1 → A2 → A3 → A4 → A5 → A6 → ρ)
    (hs : ∀ (d : Nat) (post : ρ → Prop) (a1 : A1) (a2 : A2) (a3 : A3) (a4 : A4) (a5 : A5) (a6 : A6), ok a1 a2 a3 a4 a5 a6 → post (val a1 a2 a3 a4 a5 a6) → (∀ (post' : ρ → Prop) (b1 : A1) (b2 : A2) (b3 : A3) (b4 : A4) (b5 : A5) (b6 : A6), ok b1 b2 b3 b4 b5 b6 → μ b1 b2 b3 b4 b5 b6 < μ a1 a2 a3 a4 a5 a6 → post' (val b1 b2 b3 b4 b5 b6) → W d post' b1 b2 b3 b4 b5 b6) → W (d + 1) post a1 a2 a3 a4 a5 a6) :
    ∀ (d : Nat) (post : ρ → Prop) (a1 : A1) (a2 : A2) (a3 : A3) (a4 : A4) (a5 : A5) (a6 : A6), ok a1 a2 a3 a4 a5 a6 → μ a1 a2 a3 a4 a5 a6 < d → post (val a1 a2 a3 a4 a5 a6) → W d post a1 a2 a3 a4 a5 a6 := by
  intro d
  induction d with
  | zero => intro post a1 a2 a3 a4 a5 a6 _ h; omega
  | succ d ih =>
    intro post a1 a2 a3 a4 a5 a6 ho hm hp
    exact hs d post a1 a2 a3 a4 a5 a6 ho hp (fun post' b1 b2 b3 b4 b5 b6 ho' hm' hp' => ih post' b1 b2 b3 b4 b5 b6 ho' (by omega) hp')
theorem rec_p {σ ρ : Type} (W : Nat → (ρ → Prop) → σ → Prop) (ok : σ → Prop) (μ : σ → Nat) (val : σ → ρ)
    (hs : ∀ d s post, ok s → post (val s) → (∀ s' post', ok s' → μ s' < μ s → post' (val s') → W d post' s') → W (d + 1) post s) :
    ∀ d s post, ok s → μ s < d → post (val s) → W d post s := by
  intro d
  induction d with
  | zero => intro s post _ h; omega
  | succ d ih =>
    intro s post ho hm hp
    exact hs d s post ho hp (fun s' post' ho' hm' hp' => ih s' post' ho' (by omega) hp')
theorem rec_q {σ ρ : Type} (W : Nat → (ρ → Prop) → σ → Prop) (ok : σ → Prop) (μ : σ → Nat) (Q : σ → ρ → Prop)
    (hs : ∀ d s post, ok s → (∀ r, Q s r → post r) → (∀ s' post', ok s' → μ s' < μ s → (∀ r, Q s' r → post' r) → W d post' s') → W (d + 1) post s) :
    ∀ d s post, ok s → μ s < d → (∀ r, Q s r → post r) → W d post s := by
  intro d
  induction d with
  | zero => intro s post _ h; omega
  | succ d ih =>
    intro s post ho hm hp
    exact hs d s post ho hp (fun s' post' ho' hm' hp' => ih s' post' ho' (by omega) hp')
def bx_sum (f : Nat → Int32) : Nat → Int32
  | 0 => 0
  | n + 1 => bx_sum f n + f n
theorem ek_u {A : Prop} {B : Nat → Prop} {k N : Nat} (hk : k < N) (h : B k) : (some k = none → A) ∧ (∀ y : Nat, some k = some y → (y < N ∧ B y)) :=
  ⟨fun z => absurd z (Option.some_ne_none k), fun _ e => (by cases e; exact ⟨hk, h⟩)⟩
theorem ek_nu {A : Prop} {B : Nat → Prop} (h : A) : ((none : Option Nat) = none → A) ∧ (∀ y : Nat, (none : Option Nat) = some y → B y) :=
  ⟨fun _ => h, fun _ e => (by cases e)⟩
theorem ek_if {c d A B : Prop} (e : c ↔ d) (f : d → A) (g : ¬ d → B) : (c → A) ∧ (¬ c → B) :=
  ⟨fun z => f (e.mp z), fun z => g (fun y => z (e.mpr y))⟩
theorem ek_v {α : Sort _} {P : α → Prop} {a b : α} (e : a = b) (h : P b) : P a := e ▸ h
theorem co_some {x : Option Nat} {A : Prop} {B : Nat → Prop} (i : Nat) (h : B i) (hx : x = some i := by rfl) : (x = none → A) ∧ (∀ y : Nat, x = some y → B y) := by
  subst hx
  exact ⟨fun e => (nomatch e), fun y e => Option.some.inj e ▸ h⟩
theorem co_none {x : Option Nat} {A : Prop} {B : Nat → Prop} (h : A) (hx : x = none := by rfl) : (x = none → A) ∧ (∀ y : Nat, x = some y → B y) := by
  subst hx
  exact ⟨fun _ => h, fun y e => (nomatch e)⟩
theorem co_any {x : Option Nat} {A : Prop} {B : Nat → Prop} (hn : x = none → A) (hs : ∀ i : Nat, x = some i → B i) : (x = none → A) ∧ (∀ y : Nat, x = some y → B y) := ⟨hn, hs⟩
theorem co_2 {P : Nat → Prop} (h0 : P 0) (h1 : P 1) {i : Nat} (hi : i < 2) : P i :=
  match i, hi with
  | 0, _ => h0
  | 1, _ => h1
theorem co_3 {P : Nat → Prop} (h0 : P 0) (h1 : P 1) (h2 : P 2) {i : Nat} (hi : i < 3) : P i :=
  match i, hi with
  | 0, _ => h0
  | 1, _ => h1
  | 2, _ => h2
theorem co_4 {P : Nat → Prop} (h0 : P 0) (h1 : P 1) (h2 : P 2) (h3 : P 3) {i : Nat} (hi : i < 4) : P i :=
  match i, hi with
  | 0, _ => h0
  | 1, _ => h1
  | 2, _ => h2
  | 3, _ => h3
theorem co_dec {N : Nat} {P : Nat → Prop} [DecidablePred P] (h : (List.range N).all (fun i => decide (P i)) = true) {i : Nat} (hi : i < N) : P i := by
  have := List.all_eq_true.mp h i (List.mem_range.mpr hi)
  exact of_decide_eq_true this
theorem co_tab {α : Type} {l : List α} {d : α} {P : α → Prop} (h : ∀ a, a ∈ l → P a) {i : Nat} (hi : i < l.length) : P (l.getD i d) := by
  rw [List.getD_eq_getElem?_getD, List.getElem?_eq_getElem hi]
  exact h _ (List.getElem_mem hi)
theorem pk_mu {x : Int32} {L : Nat} (h0 : ¬ x < 0) (h : ¬ nI L ≤ x) (hL : L < 2 ^ 31) : ∃ j : Nat, j < L ∧ x = nI j ∧ x + 1 = nI (j + 1) ∧ x.toNatClampNeg = j ∧ L - (x + 1).toNatClampNeg < L - x.toNatClampNeg := by
  obtain ⟨j, hj, rfl⟩ := nI_of h0
  have hl : j < L := Nat.not_le.mp fun q => h (nI_le q hj)
  refine ⟨j, hl, rfl, nI_1 j, nI_clamp hj, ?_⟩
  rw [nI_1, nI_clamp (by omega), nI_clamp hj]
  omega
theorem op_s {α : Type} {r : Option α} {A : Prop} {B : α → Prop} {y : α} (h : r = some y) (b : B y) : (r = none → A) ∧ ∀ z, r = some z → B z :=
  ⟨fun e => (by rw [h] at e; cases e), fun z e => (by rw [h] at e; cases e; exact b)⟩
def l_holds {α : Type} (a : Nat → Option Nat) (LP : List Nat) (p : Nat → α) (c : Nat) (b : Nat → α) : Prop :=
  ∀ j, j < c → ∃ y, a j = some y ∧ y ∈ LP ∧ p y = b j
theorem l_holds_0 {α : Type} {a : Nat → Option Nat} {LP : List Nat} {p b : Nat → α} : l_holds a LP p 0 b := fun j h => absurd h (Nat.not_lt_zero j)
theorem l_in_new (LP : List Nat) (q : Nat) : q ∈ LP ++ [q] := List.mem_append.mpr (Or.inr (List.mem_singleton.mpr rfl))
def l_sum (b : Nat → Int32) : Nat → Int32
  | 0 => 0
  | k + 1 => l_sum b k + b k
theorem sb_shr0 (x : Int32) : x >>> ((0 : Int32) &&& 31) = x := by
  rw [show ((0 : Int32) &&& 31) = 0 by decide]
  simp
theorem sb_shl0 (x : Int32) : x <<< ((0 : Int32) &&& 31) = x := by
  rw [show ((0 : Int32) &&& 31) = 0 by decide]
  simp
theorem sb_cl0 : (0 : Int32).toNatClampNeg = 0 := by decide
theorem sb_m1 {p : Nat} (h : 0 < p) : nI p + (-1) = nI (p - 1) := by
  obtain ⟨q, rfl⟩ : ∃ q, p = q + 1 := ⟨p - 1, by omega⟩
  exact pk_m1 q
def sb_b (c : Nat) : Int32 := (nI c).toInt8.toInt32
theorem sb_byte : ∀ c, c < 256 → sb_b c &&& 255 = nI c ∧ ((nI c).toUInt32 % 65536).toInt32 = nI c ∧ nI c ≤ 255 := by decide +kernel
def sb_Fit (a : Nat → Int32) : Prop := ∀ j, fits .byte (.int (a j)) = true
def sb_Lat (t : Nat → Nat) (n : Nat) (a : Nat → Int32) : Prop := ∀ j, j < n → t j < 256 ∧ a j = sb_b (t j)
theorem sb_fitB (c : Nat) : fits .byte (.int (sb_b c)) = true := pk_fb _
theorem sb_fit0 : sb_Fit (fun _ => 0) := fun _ => by
  show fits .byte (.int 0) = true
  decide
theorem sb_fitU {a : Nat → Int32} {k : Nat} {x : Int32} (h : sb_Fit a) (hx : fits .byte (.int x) = true) : sb_Fit (upd a k x) := by
  intro j
  by_cases e : j = k
  · subst e
    rw [pk_us]
    exact hx
  · rw [pk_un e]
    exact h j
def sb_cat (t : Nat → Nat) (n : Nat) (s : Nat → Nat) : Nat → Nat := fun j => if j < n then t j else s (j - n)
theorem sb_cat_lo {t s : Nat → Nat} {n j : Nat} (h : j < n) : sb_cat t n s j = t j := if_pos h
theorem sb_cat_hi {t s : Nat → Nat} {n j : Nat} : sb_cat t n s (n + j) = s j := by
  show (if n + j < n then t (n + j) else s (n + j - n)) = s j
  rw [if_neg (by omega), Nat.add_sub_cancel_left]
theorem sb_latPut {t s : Nat → Nat} {n w : Nat} {a a' : Nat → Int32} (h : sb_Lat t n a) (hk : ∀ j, j < n → a' j = a j) (hs : ∀ i, i < w → s i < 256 ∧ a' (n + i) = sb_b (s i)) : sb_Lat (sb_cat t n s) (n + w) a' := by
  intro j hj
  by_cases e : j < n
  · rw [sb_cat_lo e, hk j e]
    exact h j e
  · obtain ⟨i, rfl⟩ : ∃ i, j = n + i := ⟨j - n, by omega⟩
    rw [sb_cat_hi]
    exact hs i (by omega)
theorem sb_latKeep {t : Nat → Nat} {n : Nat} {a a' : Nat → Int32} (h : sb_Lat t n a) (hk : ∀ j, j < n → a' j = a j) : sb_Lat t n a' := fun j hj => by
  rw [hk j hj]
  exact h j hj
def sb_cap (q m : Nat) : Nat := if q ≤ m then m else if 2 * m + 2 < q then q else 2 * m + 2
def sb_Room (q m mc ms : Nat) : Prop := q ≤ m ∨ (1 ≤ mc ∧ sb_cap q m ≤ ms ∧ sb_cap q m ≤ 65536)
theorem sb_cap_ge (q m : Nat) : q ≤ sb_cap q m := by
  unfold sb_cap
  split
  · omega
  · split <;> omega
theorem sb_cap_gem (q m : Nat) : m ≤ sb_cap q m := by
  unfold sb_cap
  split
  · omega
  · split <;> omega
theorem sb_cap_le {q m mc ms : Nat} (hm : m ≤ 65536) (hr : sb_Room q m mc ms) : sb_cap q m ≤ 65536 := by
  rcases hr with h | h
  · rw [sb_cap, if_pos h]
    exact hm
  · exact h.2.2
theorem sb_at {P : Int32 → Prop} {x y : Int32} (e : x = y) (h : P y) : P x := e ▸ h
def sb_dg (w : Nat) : Nat := if w < 10 then 1 else if w < 100 then 2 else if w < 1000 then 3 else if w < 10000 then 4 else if w < 100000 then 5 else if w < 1000000 then 6 else if w < 10000000 then 7 else if w < 100000000 then 8 else if w < 1000000000 then 9 else 10
def sb_dec (v : Nat) : Nat → Nat := fun i => 48 + v / 10 ^ (sb_dg v - 1 - i) % 10
theorem sb_dg_in (w : Nat) : 1 ≤ sb_dg w ∧ sb_dg w ≤ 10 := by
  unfold sb_dg
  constructor <;> (repeat' split) <;> omega
theorem sb_dg100 {w : Nat} (h : 100 ≤ w) (hw : w < 2 ^ 31) : sb_dg w = sb_dg (w / 100) + 2 := by
  rw [sb_dg, sb_dg, if_neg (show ¬ w < 10 by omega), if_neg (show ¬ w < 100 by omega)]
  by_cases h3 : w < 1000
  · rw [if_pos h3, if_pos (show w / 100 < 10 by omega)]
  rw [if_neg h3, if_neg (show ¬ w / 100 < 10 by omega)]
  by_cases h4 : w < 10000
  · rw [if_pos h4, if_pos (show w / 100 < 100 by omega)]
  rw [if_neg h4, if_neg (show ¬ w / 100 < 100 by omega)]
  by_cases h5 : w < 100000
  · rw [if_pos h5, if_pos (show w / 100 < 1000 by omega)]
  rw [if_neg h5, if_neg (show ¬ w / 100 < 1000 by omega)]
  by_cases h6 : w < 1000000
  · rw [if_pos h6, if_pos (show w / 100 < 10000 by omega)]
  rw [if_neg h6, if_neg (show ¬ w / 100 < 10000 by omega)]
  by_cases h7 : w < 10000000
  · rw [if_pos h7, if_pos (show w / 100 < 100000 by omega)]
  rw [if_neg h7, if_neg (show ¬ w / 100 < 100000 by omega)]
  by_cases h8 : w < 100000000
  · rw [if_pos h8, if_pos (show w / 100 < 1000000 by omega)]
  rw [if_neg h8, if_neg (show ¬ w / 100 < 1000000 by omega)]
  by_cases h9 : w < 1000000000
  · rw [if_pos h9, if_pos (show w / 100 < 10000000 by omega)]
  rw [if_neg h9, if_neg (show ¬ w / 100 < 10000000 by omega)]
  rw [if_pos (show w / 100 < 100000000 by omega)]
theorem sb_negT {w : Nat} (h : w < 2 ^ 31) : (-nI w).toInt = -(w : Int) := by
  rw [Int32.toInt_neg, nI_toInt h]
  exact Int.bmod_eq_of_le (by omega) (by omega)
theorem sb_nle {a b : Nat} (ha : a < 2 ^ 31) (hb : b < 2 ^ 31) : -nI a ≤ -nI b ↔ b ≤ a := by
  rw [Int32.le_iff_toInt_le, sb_negT ha, sb_negT hb]
  omega
theorem sb_nlt {a b : Nat} (ha : a < 2 ^ 31) (hb : b < 2 ^ 31) : -nI a < -nI b ↔ b < a := by
  rw [Int32.lt_iff_toInt_lt, sb_negT ha, sb_negT hb]
  omega
theorem sb_cmp {A B : Prop} {x : Int32} (v c : Nat) (f : c ≤ v → A) (g : v < c → B) (hv : v < 2 ^ 31) (hx : x = -nI c := by rfl) (hc : c < 2 ^ 31 := by omega) : (-nI v ≤ x → A) ∧ (¬ -nI v ≤ x → B) := by
  subst hx
  rw [sb_nle hv hc]
  exact ⟨f, fun z => g (by omega)⟩
theorem sb_ndiv {w : Nat} (hw : w < 2 ^ 31) : (-nI w) / 100 = -nI (w / 100) := by
  apply Int32.toInt_inj.mp
  have h100 : (100 : Int32).toInt = 100 := by decide
  rw [Int32.toInt_div, sb_negT hw, h100, sb_negT (by omega), Int.neg_tdiv, Int.tdiv_eq_ediv_of_nonneg (by omega), Int.bmod_eq_of_le (by omega) (by omega)]
  omega
theorem sb_nrem {w : Nat} (hw : w < 2 ^ 31) : (-nI (w / 100)) * 100 - (-nI w) = nI (w % 100) := by
  have h := pk_rem (a := w) (d := 100) hw (by decide) (by decide)
  rw [pk_div hw (by decide) (by decide)] at h
  rw [← h]
  show (-nI (w / 100)) * nI 100 - (-nI w) = nI w - nI (w / 100) * nI 100
  rw [Int32.neg_mul, Int32.sub_neg, Int32.add_comm, ← Int32.sub_eq_add_neg]

/-! rows on bits, shifts and unsigned numbers, to paste: each family out of a closed proof of our own, whole with what it rests on; each by itself clean at Lean in its own claim (generation 39, form 5). Take a family whole -/
/-! ===== Int32 by its bits: bt x i ===== -/
def bt (x : Int32) (i : Nat) : Bool := x.toBitVec.getLsbD i
theorem b_ext {x y : Int32} (h : ∀ i, i < 32 → bt x i = bt y i) : x = y := Int32.toBitVec_inj.mp (BitVec.eq_of_getLsbD_eq (fun i hi => h i hi))
theorem b_or (x y : Int32) (i : Nat) : bt (x ||| y) i = (bt x i || bt y i) := by unfold bt; rw [Int32.toBitVec_or, BitVec.getLsbD_or]
theorem b_and (x y : Int32) (i : Nat) : bt (x &&& y) i = (bt x i && bt y i) := by unfold bt; rw [Int32.toBitVec_and, BitVec.getLsbD_and]
theorem b_xor (x y : Int32) (i : Nat) : bt (x ^^^ y) i = (bt x i ^^ bt y i) := by unfold bt; rw [Int32.toBitVec_xor, BitVec.getLsbD_xor]
theorem b_big {x : Int32} {i : Nat} (h : 32 ≤ i) : bt x i = false := BitVec.getLsbD_of_ge _ _ h
theorem b_255 (i : Nat) : bt 255 i = decide (i < 8) := by
  rcases Nat.lt_or_ge i 32 with h | h
  · exact (by decide +kernel : ∀ i, i < 32 → bt 255 i = decide (i < 8)) i h
  · rw [b_big h, decide_eq_false (by omega)]
theorem b_65535 (i : Nat) : bt 65535 i = decide (i < 16) := by
  rcases Nat.lt_or_ge i 32 with h | h
  · exact (by decide +kernel : ∀ i, i < 32 → bt 65535 i = decide (i < 16)) i h
  · rw [b_big h, decide_eq_false (by omega)]
theorem b_m1 : ∀ i, i < 32 → bt (-1) i = true := by decide +kernel
theorem b_0 (i : Nat) : bt 0 i = false := BitVec.getLsbD_zero
theorem s_l : ∀ n, n < 32 → ((nI n &&& 31).toBitVec.smod 32).toNat = n := by decide +kernel
theorem s_u : ∀ n, n < 32 → (((nI n).toUInt32 &&& Int32.toUInt32 31).toBitVec % 32).toNat = n := by decide +kernel
theorem b_shl (n : Nat) (hn : n < 32) (x : Int32) {i : Nat} (hi : i < 32) : bt (x <<< (nI n &&& 31)) i = (decide (n ≤ i) && bt x (i - n)) := by
  unfold bt
  rw [Int32.toBitVec_shiftLeft]
  show (x.toBitVec <<< ((nI n &&& 31).toBitVec.smod 32).toNat).getLsbD i = _
  rw [s_l n hn, BitVec.getLsbD_shiftLeft]
  rcases Nat.lt_or_ge i n with h | h
  · simp [h, Nat.not_le.mpr h]
  · simp [hi, h, Nat.not_lt.mpr h]
theorem b_ushr (n : Nat) (hn : n < 32) (x : Int32) (i : Nat) : bt ((x.toUInt32 >>> ((nI n).toUInt32 &&& Int32.toUInt32 31)).toInt32) i = bt x (n + i) := by
  show (x.toUInt32 >>> ((nI n).toUInt32 &&& Int32.toUInt32 31)).toBitVec.getLsbD i = x.toUInt32.toBitVec.getLsbD (n + i)
  rw [UInt32.toBitVec_shiftRight]
  show (x.toUInt32.toBitVec >>> (((nI n).toUInt32 &&& Int32.toUInt32 31).toBitVec % 32).toNat).getLsbD i = _
  rw [s_u n hn, BitVec.getLsbD_ushiftRight]
theorem b_sshr (n : Nat) (hn : n < 32) (x : Int32) {i : Nat} (hi : i < 32) : bt (x >>> (nI n &&& 31)) i = if n + i < 32 then bt x (n + i) else bt x 31 := by
  unfold bt
  rw [Int32.toBitVec_shiftRight]
  show (x.toBitVec.sshiftRight ((nI n &&& 31).toBitVec.smod 32).toNat).getLsbD i = _
  rw [s_l n hn, BitVec.getLsbD_sshiftRight, BitVec.msb_eq_getLsbD_last]
  simp [hi]
theorem b_shl8 (x : Int32) {i : Nat} (hi : i < 32) : bt (x <<< ((8 : Int32) &&& 31)) i = (decide (8 ≤ i) && bt x (i - 8)) := b_shl 8 (by omega) x hi
theorem b_shl16 (x : Int32) {i : Nat} (hi : i < 32) : bt (x <<< ((16 : Int32) &&& 31)) i = (decide (16 ≤ i) && bt x (i - 16)) := b_shl 16 (by omega) x hi
theorem b_shl24 (x : Int32) {i : Nat} (hi : i < 32) : bt (x <<< ((24 : Int32) &&& 31)) i = (decide (24 ≤ i) && bt x (i - 24)) := b_shl 24 (by omega) x hi
theorem b_sshr8 (x : Int32) {i : Nat} (hi : i < 32) : bt (x >>> ((8 : Int32) &&& 31)) i = if 8 + i < 32 then bt x (8 + i) else bt x 31 := b_sshr 8 (by omega) x hi
/-! ===== nI under and, xor, >>>, one bit, 65535 ===== -/
theorem nx_and (a b : Nat) : nI a &&& nI b = nI (a &&& b) := by
  apply Int32.toBitVec_inj.1
  show BitVec.ofNat 32 a &&& BitVec.ofNat 32 b = BitVec.ofNat 32 (a &&& b)
  apply BitVec.eq_of_getLsbD_eq
  intro i hi
  simp [hi]
theorem nx_xor (a b : Nat) : nI a ^^^ nI b = nI (a ^^^ b) := by
  apply Int32.toBitVec_inj.1
  show BitVec.ofNat 32 a ^^^ BitVec.ofNat 32 b = BitVec.ofNat 32 (a ^^^ b)
  apply BitVec.eq_of_getLsbD_eq
  intro i hi
  simp [hi]
theorem nx_cnt : ∀ j : Fin 32, (UInt32.ofNat j.val &&& Int32.toUInt32 31).toNat % 32 = j.val := by decide +kernel
theorem nx_ush {k j : Nat} (hk : k < 65536) (hj : j < 32) : ((nI k).toUInt32 >>> ((nI j).toUInt32 &&& Int32.toUInt32 31)).toInt32 = nI (k >>> j) := by
  have hs : k >>> j ≤ k := by
    rw [Nat.shiftRight_eq_div_pow]
    exact Nat.div_le_self _ _
  have e2 : UInt32.ofNat k >>> (UInt32.ofNat j &&& Int32.toUInt32 31) = UInt32.ofNat (k >>> j) := by
    apply UInt32.toNat_inj.1
    have h1 : (UInt32.ofNat k).toNat = k := Nat.mod_eq_of_lt (by omega)
    have h2 : (UInt32.ofNat (k >>> j)).toNat = k >>> j := Nat.mod_eq_of_lt (by omega)
    rw [UInt32.toNat_shiftRight, nx_cnt ⟨j, hj⟩, h1, h2]
  show (UInt32.ofNat k >>> (UInt32.ofNat j &&& Int32.toUInt32 31)).toInt32 = _
  rw [e2]
  rfl
theorem nx_bit {k j : Nat} (hk : k < 65536) (hj : j < 16) : (((nI k).toUInt32 >>> ((nI j).toUInt32 &&& Int32.toUInt32 31)).toInt32 &&& 1) = 0 ↔ k.testBit j = false := by
  rw [nx_ush hk (by omega)]
  show nI (k >>> j) &&& nI 1 = 0 ↔ _
  rw [nx_and, Nat.and_one_is_mod, ← nI_0, nI_eq (by omega) (by omega), Nat.testBit_eq_decide_div_mod_eq, Nat.shiftRight_eq_div_pow, decide_eq_false_iff_not]
  generalize k / 2 ^ j = z
  omega
theorem nx_mod (k : Nat) : nI k &&& 65535 = nI (k % 65536) := by
  show nI k &&& nI 65535 = _
  rw [nx_and, show (65535 : Nat) = 2 ^ 16 - 1 from rfl, Nat.and_two_pow_sub_one_eq_mod]
theorem nx_m16 {k : Nat} (h : k < 65536) : nI k &&& 65535 = nI k := by rw [nx_mod, Nat.mod_eq_of_lt h]
theorem nx_mask (x : Int32) : ∃ k, k < 65536 ∧ x &&& 65535 = nI k := by
  have e : x = nI x.toBitVec.toNat := by
    apply Int32.toBitVec_inj.1
    show x.toBitVec = BitVec.ofNat 32 x.toBitVec.toNat
    simp
  refine ⟨x.toBitVec.toNat % 65536, Nat.mod_lt _ (by omega), ?_⟩
  rw [← nx_mod, ← e]
/-! ===== Int32 as a set of bits: test, set ===== -/
def nf_M (m : Int32) : Nat := 4294967296 - m.toBitVec.toNat
theorem nf_sh : ∀ l, l < 32 → ((1 : Int32) <<< (nI l &&& 31)).toBitVec = BitVec.twoPow 32 l := by decide +kernel
theorem nf_sl : ∀ l, l < 32 → (((nI l).toUInt32 &&& Int32.toUInt32 31).toBitVec % 32).toNat = l := by decide +kernel
theorem nf_tp : ∀ l, l < 32 → BitVec.twoPow 32 l ≠ 0#32 := by decide +kernel
theorem nf_bit (m : Int32) (l : Nat) (hl : l < 32) : ((m.toUInt32 >>> ((nI l).toUInt32 &&& Int32.toUInt32 31)).toInt32 &&& 1) = 0 ↔ (m &&& ((1 : Int32) <<< (nI l &&& 31))) = 0 := by
  have e : ((m.toUInt32 >>> ((nI l).toUInt32 &&& Int32.toUInt32 31)).toInt32).toBitVec = m.toBitVec >>> l := by
    show m.toBitVec >>> (((nI l).toUInt32 &&& Int32.toUInt32 31).toBitVec % 32) = m.toBitVec >>> l
    rw [BitVec.ushiftRight_eq', nf_sl l hl]
  rw [← Int32.toBitVec_inj, ← Int32.toBitVec_inj, Int32.toBitVec_and, Int32.toBitVec_and, nf_sh l hl, e, BitVec.and_twoPow]
  show (m.toBitVec >>> l &&& 1#32) = 0#32 ↔ _ = 0#32
  rw [BitVec.and_one_eq_setWidth_ofBool_getLsbD, BitVec.getLsbD_ushiftRight, Nat.add_zero]
  cases hb : m.toBitVec.getLsbD l
  · exact ⟨fun _ => by simp, fun _ => by decide⟩
  · exact ⟨fun z => absurd z (by decide), fun z => absurd ((if_pos rfl).symm.trans z) (nf_tp l hl)⟩
theorem nf_gr (m k : Int32) (h : m &&& k = 0) (hk : k ≠ 0) : nf_M (m ||| k) < nf_M m := by
  have hm := m.toBitVec.isLt
  have hm' := (m ||| k).toBitVec.isLt
  have h1 : m.toBitVec.toNat ≤ (m ||| k).toBitVec.toNat := by
    rw [Int32.toBitVec_or, BitVec.toNat_or]
    exact Nat.left_le_or
  have h2 : m.toBitVec.toNat ≠ (m ||| k).toBitVec.toNat := by
    intro e
    have e2 : m = m ||| k := Int32.toBitVec_inj.mp (BitVec.eq_of_toNat_eq e)
    apply hk
    apply Int32.toBitVec_inj.mp
    show k.toBitVec = 0#32
    apply BitVec.eq_of_getLsbD_eq
    intro i hi
    have a : m.toBitVec.getLsbD i = (m.toBitVec.getLsbD i || k.toBitVec.getLsbD i) := by rw [← BitVec.getLsbD_or, ← Int32.toBitVec_or, ← e2]
    have b : (m.toBitVec.getLsbD i && k.toBitVec.getLsbD i) = false := by
      rw [← BitVec.getLsbD_and, ← Int32.toBitVec_and, h]
      exact BitVec.getLsbD_zero
    rw [BitVec.getLsbD_zero]
    revert a b
    cases m.toBitVec.getLsbD i <;> cases k.toBitVec.getLsbD i <;> simp
  unfold nf_M
  omega
/-! ===== a byte read unsigned ===== -/
theorem bp_b (x : Int32) : x.toInt8.toInt32 &&& 255 = x &&& 255 := by
  apply Int32.toBitVec_inj.mp
  rw [Int32.toBitVec_and, Int32.toBitVec_and, Int8.toBitVec_toInt32, Int32.toBitVec_toInt8]
  apply BitVec.eq_of_getLsbD_eq
  intro i hi
  rw [BitVec.getLsbD_and, BitVec.getLsbD_and]
  have hm : ∀ i < 32, 8 ≤ i → (255 : Int32).toBitVec.getLsbD i = false := by decide
  rcases Nat.lt_or_ge i 8 with z | z
  · rw [BitVec.getLsbD_signExtend, BitVec.getLsbD_signExtend, if_pos z, if_pos hi]
    simp only [z, hi, decide_true, Bool.true_and]
  · rw [hm i hi z]; simp
/-! ===== the char cast and 65535 ===== -/
theorem em_w (v : Int32) : ∃ w : Nat, w < 65536 ∧ (v.toUInt32 % 65536).toInt32 = nI w ∧ v &&& 65535 = nI w := by
  have hr := lw_u16_r v
  have h0 : (0 : Int32).toInt = 0 := by decide
  obtain ⟨w, h1, h2⟩ := nI_of (x := lw_u16 v) (by rw [Int32.lt_iff_toInt_lt]; omega)
  have h3 : (v.toUInt32 % 65536).toInt32 = nI w := h2
  rw [h2, nI_toInt h1] at hr
  exact ⟨w, by omega, h3, by rw [← lg_i2c_mask, ← lg_i2c_nf, h3]⟩
/-! ===== Int64 as a set of bits: test, set, clear ===== -/
end
section
/-! the nesting of a format's items, the stack of a run, the runs of plain items -/
/-- what has begun ahead of item i, the innermost first; an ELSE stands there for its WHEN -/
def fw_st (K : Nat → Int32) : Nat → List Nat
  | 0 => []
  | i + 1 => if K i = 4 ∨ K i = 5 ∨ K i = 6 then i :: fw_st K i else if K i = 12 then i :: (fw_st K i).tail else if K i = 13 then (fw_st K i).tail else fw_st K i
theorem fw_st_op {K : Nat → Int32} {i : Nat} (h : K i = 4 ∨ K i = 5 ∨ K i = 6) : fw_st K (i + 1) = i :: fw_st K i := by
  rw [fw_st, if_pos h]
theorem fw_st_12 {K : Nat → Int32} {i : Nat} (h : K i = 12) : fw_st K (i + 1) = i :: (fw_st K i).tail := by
  rw [fw_st, if_neg (by rw [h]; decide), if_pos h]
theorem fw_st_13 {K : Nat → Int32} {i : Nat} (h : K i = 13) : fw_st K (i + 1) = (fw_st K i).tail := by
  rw [fw_st, if_neg (by rw [h]; decide), if_neg (by rw [h]; decide), if_pos h]
theorem fw_st_no {K : Nat → Int32} {i : Nat} (h : ¬ (K i = 4 ∨ K i = 5 ∨ K i = 6)) (h2 : ¬ K i = 12) (h3 : ¬ K i = 13) : fw_st K (i + 1) = fw_st K i := by
  rw [fw_st, if_neg h, if_neg h2, if_neg h3]
theorem fw_st_cases (K : Nat → Int32) (i : Nat) : ((K i = 4 ∨ K i = 5 ∨ K i = 6) ∧ fw_st K (i + 1) = i :: fw_st K i) ∨ (K i = 12 ∧ fw_st K (i + 1) = i :: (fw_st K i).tail) ∨ (K i = 13 ∧ fw_st K (i + 1) = (fw_st K i).tail) ∨ (¬ (K i = 4 ∨ K i = 5 ∨ K i = 6) ∧ ¬ K i = 12 ∧ ¬ K i = 13 ∧ fw_st K (i + 1) = fw_st K i) := by
  by_cases h : K i = 4 ∨ K i = 5 ∨ K i = 6
  · exact Or.inl ⟨h, fw_st_op h⟩
  · by_cases h2 : K i = 12
    · exact Or.inr (Or.inl ⟨h2, fw_st_12 h2⟩)
    · by_cases h3 : K i = 13
      · exact Or.inr (Or.inr (Or.inl ⟨h3, fw_st_13 h3⟩))
      · exact Or.inr (Or.inr (Or.inr ⟨h, h2, h3, fw_st_no h h2 h3⟩))
theorem fw_st_congr {K K' : Nat → Int32} : ∀ i, (∀ j, j < i → K j = K' j) → fw_st K i = fw_st K' i
  | 0, _ => rfl
  | i + 1, h => by
    rw [fw_st, fw_st, fw_st_congr i (fun j hj => h j (by omega)), h i (by omega)]
theorem fw_st_lt {K : Nat → Int32} : ∀ i x, x ∈ fw_st K i → x < i ∧ (K x = 4 ∨ K x = 5 ∨ K x = 6 ∨ K x = 12) := by
  intro i
  induction i with
  | zero => intro x hx; cases hx
  | succ i ih =>
    intro x hx
    rcases fw_st_cases K i with ⟨h, e⟩ | ⟨h, e⟩ | ⟨h, e⟩ | ⟨h, h2, h3, e⟩ <;> rw [e] at hx
    · rcases List.mem_cons.mp hx with rfl | hx
      · refine ⟨by omega, ?_⟩
        rcases h with h | h | h
        · exact Or.inl h
        · exact Or.inr (Or.inl h)
        · exact Or.inr (Or.inr (Or.inl h))
      · exact ⟨by have := (ih x hx).1; omega, (ih x hx).2⟩
    · rcases List.mem_cons.mp hx with rfl | hx
      · exact ⟨by omega, Or.inr (Or.inr (Or.inr h))⟩
      · have := ih x (List.mem_of_mem_tail hx)
        exact ⟨by omega, this.2⟩
    · have := ih x (List.mem_of_mem_tail hx)
      exact ⟨by omega, this.2⟩
    · have := ih x hx
      exact ⟨by omega, this.2⟩
theorem fw_tail_pw {l : List Nat} (h : l.Pairwise (fun a b => b < a)) : l.tail.Pairwise (fun a b => b < a) := by
  cases l with
  | nil => exact h
  | cons a t => exact (List.pairwise_cons.mp h).2
theorem fw_st_pw {K : Nat → Int32} : ∀ i, (fw_st K i).Pairwise (fun a b => b < a) := by
  intro i
  induction i with
  | zero => exact List.Pairwise.nil
  | succ i ih =>
    rcases fw_st_cases K i with ⟨h, e⟩ | ⟨h, e⟩ | ⟨h, e⟩ | ⟨h, h2, h3, e⟩ <;> rw [e]
    · exact List.pairwise_cons.mpr ⟨fun x hx => (fw_st_lt i x hx).1, ih⟩
    · exact List.pairwise_cons.mpr ⟨fun x hx => (fw_st_lt i x (List.mem_of_mem_tail hx)).1, fw_tail_pw ih⟩
    · exact fw_tail_pw ih
    · exact ih
theorem fw_st_nd {K : Nat → Int32} {i o : Nat} {t : List Nat} (h : fw_st K i = o :: t) : o ∉ t := by
  have := fw_st_pw (K := K) i
  rw [h] at this
  intro ho
  exact Nat.lt_irrefl _ ((List.pairwise_cons.mp this).1 o ho)
/-- the check of the nesting has passed -/
def fw_wf (K : Nat → Int32) (n : Nat) : Prop :=
  (∀ i, i < n → K i = 12 → ∃ o t, fw_st K i = o :: t ∧ K o = 5) ∧ (∀ i, i < n → K i = 13 → ∃ o t, fw_st K i = o :: t) ∧
  (∀ i, i < n → (K i = 4 ∨ K i = 5 ∨ K i = 6) → (fw_st K i).length < 4) ∧ fw_st K n = []
theorem fw_st_len {K : Nat → Int32} {n : Nat} (w : fw_wf K n) : ∀ i, i ≤ n → (fw_st K i).length ≤ 4 := by
  intro i
  induction i with
  | zero => intro _; exact Nat.zero_le _
  | succ i ih =>
    intro hi
    have h0 := ih (by omega)
    rcases fw_st_cases K i with ⟨h, e⟩ | ⟨h, e⟩ | ⟨h, e⟩ | ⟨h, h2, h3, e⟩ <;> rw [e]
    · have := w.2.2.1 i (by omega) h
      rw [List.length_cons]; omega
    · obtain ⟨o, t, e2, _⟩ := w.1 i (by omega) h
      rw [e2] at h0 ⊢
      exact h0
    · rw [List.length_tail]; omega
    · exact h0
/-- the stack of a run: the items begun and the times still to be done or the block's end -/
def fw_LM (K : Nat → Int32) (B : Nat) : List (Nat × Nat) → Nat
  | [] => B
  | (o, m) :: s => if K o = 6 then m else fw_LM K B s
def fw_RK (K : Nat → Int32) : List (Nat × Nat) → Nat
  | [] => 0
  | (o, _) :: s => if K o = 5 then fw_RK K s else fw_RK K s + 1
def fw_MS (K : Nat → Int32) : List (Nat × Nat) → Nat
  | [] => 0
  | (o, m) :: s => if K o = 4 then fw_MS K s + m else fw_MS K s
def fw_SK (K : Nat → Int32) (B : Nat) (op nu sav : Nat → Int32) : List (Nat × Nat) → List Nat → Prop
  | [], [] => True
  | (o, m) :: s, x :: t => o < 40 ∧ (o = x ∨ (K o = 5 ∧ K x = 12)) ∧ op s.length = nI o ∧
      ((K o = 4 ∧ 1 ≤ m ∧ m ≤ 32 ∧ nu s.length = nI m ∧ sav (fw_RK K s) = nI m) ∨ K o = 5 ∨
       (K o = 6 ∧ m ≤ fw_LM K B s ∧ nu s.length = nI m ∧ sav (fw_RK K s) = nI (fw_LM K B s))) ∧ fw_SK K B op nu sav s t
  | [], _ :: _ => False
  | _ :: _, [] => False
section
variable {K : Nat → Int32} {B : Nat} {op nu sav : Nat → Int32}
theorem fw_SK_len : ∀ {s : List (Nat × Nat)} {t : List Nat}, fw_SK K B op nu sav s t → s.length = t.length
  | [], [], _ => rfl
  | (_, _) :: s, _ :: t, h => congrArg (· + 1) (fw_SK_len (s := s) (t := t) h.2.2.2.2)
  | [], _ :: _, h => h.elim
  | _ :: _, [], h => h.elim
theorem fw_RK_le (K : Nat → Int32) : ∀ s : List (Nat × Nat), fw_RK K s ≤ s.length
  | [] => Nat.le_refl 0
  | (o, m) :: s => by
    have := fw_RK_le K s
    rw [fw_RK, List.length_cons]
    split <;> omega
theorem fw_LM_le : ∀ {s : List (Nat × Nat)} {t : List Nat}, fw_SK K B op nu sav s t → fw_LM K B s ≤ B
  | [], [], _ => Nat.le_refl _
  | (o, m) :: s, x :: t, h => by
    have ih := fw_LM_le (s := s) (t := t) h.2.2.2.2
    rw [fw_LM]
    split
    · rename_i h6
      rcases h.2.2.2.1 with ⟨h4, _⟩ | h5 | ⟨_, hm, _⟩
      · rw [h6] at h4; exact absurd h4 (by decide)
      · rw [h6] at h5; exact absurd h5 (by decide)
      · omega
    · exact ih
  | [], _ :: _, h => h.elim
  | _ :: _, [], h => h.elim
theorem fw_MS_le : ∀ {s : List (Nat × Nat)} {t : List Nat}, fw_SK K B op nu sav s t → fw_MS K s ≤ 32 * s.length
  | [], [], _ => Nat.le_refl _
  | (o, m) :: s, x :: t, h => by
    have ih := fw_MS_le (s := s) (t := t) h.2.2.2.2
    rw [fw_MS, List.length_cons]
    split
    · rename_i h6
      rcases h.2.2.2.1 with ⟨h4, _, hm, _⟩ | h5 | ⟨h7, hm, _⟩
      · omega
      · rw [h6] at h5; exact absurd h5 (by decide)
      · rw [h6] at h7; exact absurd h7 (by decide)
    · omega
  | [], _ :: _, h => h.elim
  | _ :: _, [], h => h.elim
theorem fw_SK_frame {op' nu' sav' : Nat → Int32} : ∀ {s : List (Nat × Nat)} {t : List Nat}, (∀ d, d < s.length → op' d = op d ∧ nu' d = nu d) → (∀ r, r < fw_RK K s → sav' r = sav r) → fw_SK K B op nu sav s t → fw_SK K B op' nu' sav' s t
  | [], [], _, _, _ => trivial
  | (o, m) :: s, x :: t, h1, h2, h => by
    have hl : s.length < ((o, m) :: s).length := by rw [List.length_cons]; omega
    have hk : fw_RK K s ≤ fw_RK K ((o, m) :: s) := by rw [fw_RK]; split <;> omega
    refine ⟨h.1, h.2.1, (h1 _ hl).1.trans h.2.2.1, ?_, fw_SK_frame (fun d hd => h1 d (by omega)) (fun r hr => h2 r (by omega)) h.2.2.2.2⟩
    rcases h.2.2.2.1 with ⟨h4, a, b, c, d⟩ | h5 | ⟨h6, a, b, c⟩
    · have : fw_RK K s < fw_RK K ((o, m) :: s) := by rw [fw_RK, if_neg (by rw [h4]; decide)]; omega
      exact Or.inl ⟨h4, a, b, (h1 _ hl).2.trans c, (h2 _ this).trans d⟩
    · exact Or.inr (Or.inl h5)
    · have : fw_RK K s < fw_RK K ((o, m) :: s) := by rw [fw_RK, if_neg (by rw [h6]; decide)]; omega
      exact Or.inr (Or.inr ⟨h6, a, (h1 _ hl).2.trans b, (h2 _ this).trans c⟩)
  | [], _ :: _, _, _, h => h.elim
  | _ :: _, [], _, _, h => h.elim
end
/-- a list of places in an array, the top first -/
def fw_AL (f : Nat → Int32) : List Nat → Prop
  | [] => True
  | x :: t => f t.length = nI x ∧ fw_AL f t
theorem fw_AL_upd {f : Nat → Int32} {k : Nat} {v : Int32} : ∀ {t : List Nat}, t.length ≤ k → fw_AL f t → fw_AL (upd f k v) t
  | [], _, _ => trivial
  | x :: t, h, a => by
    rw [List.length_cons] at h
    exact ⟨(pk_un (by omega)).trans a.1, fw_AL_upd (by omega) a.2⟩
/-- a run of plain items that begins at i: r items, b bytes, v values -/
def fw_RO (K A : Nat → Int32) : Nat → Nat → Nat → Nat → Prop
  | 0, _, _, _ => True
  | r + 1, i, b, v => (K i = 0 ∧ ∃ a b' v' : Nat, A i = nI a ∧ 1 ≤ a ∧ a ≤ 4 ∧ b = a + b' ∧ v = v' + 1 ∧ fw_RO K A r (i + 1) b' v') ∨ (K i = 3 ∧ ∃ b' : Nat, b = b' + 1 ∧ fw_RO K A r (i + 1) b' v)
/-- an item that put has taken -/
def fw_FV (k a : Int32) : Prop :=
  (∃ q : Nat, q ≤ 13 ∧ k = nI q) ∧ (k = 0 → ∃ q : Nat, 1 ≤ q ∧ q ≤ 4 ∧ a = nI q) ∧ (k = 2 → ∃ q : Nat, 1 ≤ q ∧ q ≤ 16 ∧ a = nI q) ∧
  (k = 3 → ∃ q : Nat, q ≤ 255 ∧ a = nI q) ∧ (k = 8 → ∃ q : Nat, 2 ≤ q ∧ q ≤ 8 ∧ a = nI q)
/-- the component's partners -/
def fw_PT (K par : Nat → Int32) (n : Nat) : Prop :=
  (∀ e, e < n → K e = 13 → ∃ o t, fw_st K e = o :: t ∧ par e = nI o ∧ par o = nI e) ∧
  (∀ l, l < n → K l = 12 → ∃ o t, fw_st K l = o :: t ∧ par o = nI l)
def fw_RI (K A ri rb rv : Nat → Int32) (n : Nat) : Prop :=
  ∀ i, i ≤ n → ¬ ri i ≤ 1 → ∃ r b v : Nat, ri i = nI r ∧ 2 ≤ r ∧ i + r ≤ n ∧ rb i = nI b ∧ rv i = nI v ∧ b ≤ 160 ∧ v ≤ 40 ∧ fw_RO K A r i b v
/-- the format that both have -/
def fw_FMT (n : Nat) (yk yf ys wh aa bb par ri rb rv : Nat → Int32) : Prop :=
  n ≤ 40 ∧ (∀ i, i < n → wh i = yk i ∧ aa i = yf i ∧ bb i = ys i ∧ fw_FV (yk i) (yf i)) ∧ wh n = 14 ∧ fw_wf yk n ∧ fw_PT yk par n ∧ fw_RI yk yf ri rb rv n
/-- the sum of the first n bytes -/
def fw_sum (f : Nat → Int32) : Nat → Int32
  | 0 => 0
  | n + 1 => fw_sum f n + f n
theorem fw_sum_congr {f g : Nat → Int32} : ∀ n, (∀ j, j < n → f j = g j) → fw_sum f n = fw_sum g n
  | 0, _ => rfl
  | n + 1, h => by rw [fw_sum, fw_sum, fw_sum_congr n (fun j hj => h j (by omega)), h n (by omega)]
/-- a byte that is begun counts as one more -/
def fw_c (b : Nat) : Nat := if b = 0 then 0 else 1
/-- bytes: the input read so far, or what is made so far -/
def fw_DP (wr xml ymd : Int32) (p b : Nat) (bby sm : Int32) (inp mad yin you : Nat → Int32) : Prop :=
  b ≤ 7 ∧ p ≤ 64 ∧ (0 < b → 0 < p) ∧ (∀ j, yin j = inp j &&& 255) ∧
  ((wr = 0 ∧ (0 < b → bby = yin (p - 1)) ∧ sm = fw_sum yin p ∧ ∃ w : Nat, w ≤ 64 ∧ xml = nI w ∧ ymd = nI w ∧ ∀ j, j < w → mad j &&& 255 = you j) ∨
   (wr = 1 ∧ (0 < b → bby = you (p - 1) ∧ bby &&& 255 = bby) ∧ sm = fw_sum you (p - fw_c b) ∧ ∀ j, j < p - fw_c b → mad j &&& 255 = you j))
def fw_MD (wr yrd yfd : Int32) (B : Nat) : Prop := B ≤ 64 ∧ ((wr = 0 ∧ yrd = 1 ∧ yfd = nI B) ∨ (wr = 1 ∧ yrd = 0 ∧ B = 64))
end
section
/-! the small methods -/
variable {xit xln xrd xop xil cnt xml wr pc pos lim bby bl sm st tkn dep beg oc plc rch : Int32} {xk xf xs wh aa bb par ri rb rv oi os ot inp lst mad vr sav : Nat → Int32} {yit ysz yfd yls ymd ysa ytk ydp yps ybt yst yus ynx yra yrd : Int32} {yks yas ybs yk yf ys yin yli you yva yop ynu yse yth : Nat → Int32}
theorem fw_m1 {p : Nat} (h : 0 < p) : nI p - 1 = nI (p - 1) := pk_sub (a := p) (b := 1) h
theorem fw_in7 (x : Int32) : vp_in (x &&& 7) 8 := pk_andIn x 3 (by decide) (by decide)
theorem fw_and0 (x : Int32) : x &&& 0 = 0 := b_ext (fun i _ => by rw [b_and, b_0, Bool.and_false])
theorem xx_end {post : SX → Prop} {h : Int32} (h0 : ¬ h = 0) (H : post (xit, xln, xrd, xop, xil, cnt, xml, wr, pc, pos, lim, bby, bl, sm, st, tkn, dep, beg, h, pc, beg, xk, xf, xs, wh, aa, bb, par, ri, rb, rv, oi, os, ot, inp, lst, mad, vr, sav)) : (wpX_end post (xit, xln, xrd, xop, xil, cnt, xml, wr, pc, pos, lim, bby, bl, sm, st, tkn, dep, beg, oc, plc, rch, xk, xf, xs, wh, aa, bb, par, ri, rb, rv, oi, os, ot, inp, lst, mad, vr, sav) h) := br_f h0 (br_f h0 H)
theorem xx_end0 {post : SX → Prop} (H : post (xit, xln, xrd, xop, xil, cnt, xml, wr, pc, pos, lim, bby, bl, sm, st, tkn, dep, beg, 0, (-1), pos, xk, xf, xs, wh, aa, bb, par, ri, rb, rv, oi, os, ot, inp, lst, mad, vr, sav)) : (wpX_end post (xit, xln, xrd, xop, xil, cnt, xml, wr, pc, pos, lim, bby, bl, sm, st, tkn, dep, beg, oc, plc, rch, xk, xf, xs, wh, aa, bb, par, ri, rb, rv, oi, os, ot, inp, lst, mad, vr, sav) 0) := br_t rfl (br_t rfl H)
theorem xx_emit {post : SX → Prop} {p : Nat} {v : Int32} (h : p < 64) (H : post (xit, xln, xrd, xop, xil, cnt, xml, wr, pc, nI (p + 1), lim, bby, bl, sm + (v &&& 255), st, tkn, dep, beg, oc, plc, rch, xk, xf, xs, wh, aa, bb, par, ri, rb, rv, oi, os, ot, inp, lst, upd mad p v.toInt8.toInt32, vr, sav)) : (wpX_emit post (xit, xln, xrd, xop, xil, cnt, xml, wr, pc, nI p, lim, bby, bl, sm, st, tkn, dep, beg, oc, plc, rch, xk, xf, xs, wh, aa, bb, par, ri, rb, rv, oi, os, ot, inp, lst, mad, vr, sav) v) :=
  nm_r (nI_1 p) (And.intro (vp_in_nI h (by decide)) (nm_r (by rw [nI_clamp (by omega), pk_vb]) (nm_e H)))
theorem xx_keep_r {post : SX → Prop} {c : Nat} {v x : Int32} (hv : vp_in v 8) (hc : c < 40) (H : post (xit, xln, xrd, xop, xil, nI (c + 1), xml, 0, pc, pos, lim, bby, bl, sm, st, tkn, dep, beg, oc, plc, rch, xk, xf, xs, wh, aa, bb, par, ri, rb, rv, oi, os, ot, inp, upd lst c x, mad, upd vr v.toNatClampNeg x, sav)) : (wpX_keep post (xit, xln, xrd, xop, xil, nI c, xml, 0, pc, pos, lim, bby, bl, sm, st, tkn, dep, beg, oc, plc, rch, xk, xf, xs, wh, aa, bb, par, ri, rb, rv, oi, os, ot, inp, lst, mad, vr, sav) v x) :=
  And.intro hv (nm_e (br_t rfl (nm_r (nI_1 c) (And.intro (vp_in_nI hc (by decide)) (nm_r (by rw [nI_clamp (by omega)]) H)))))
theorem xx_keep_w {post : SX → Prop} {k : Nat} {v x : Int32} (hv : vp_in v 8) (H : post (xit, xln, xrd, xop, xil, cnt, xml, 1, pc, pos, lim, bby, bl, sm, st, nI (k + 1), dep, beg, oc, plc, rch, xk, xf, xs, wh, aa, bb, par, ri, rb, rv, oi, os, ot, inp, lst, mad, upd vr v.toNatClampNeg x, sav)) : (wpX_keep post (xit, xln, xrd, xop, xil, cnt, xml, 1, pc, pos, lim, bby, bl, sm, st, nI k, dep, beg, oc, plc, rch, xk, xf, xs, wh, aa, bb, par, ri, rb, rv, oi, os, ot, inp, lst, mad, vr, sav) v x) :=
  And.intro hv (nm_e (br_f (by decide) (nm_r (nI_1 k) H)))
theorem xx_byte {post : Int32 → SX → Prop} {p : Nat} (h : p < 64) (H : post (inp p &&& 255) (xit, xln, xrd, xop, xil, cnt, xml, wr, pc, nI (p + 1), lim, bby, bl, sm + (inp p &&& 255), st, tkn, dep, beg, oc, plc, rch, xk, xf, xs, wh, aa, bb, par, ri, rb, rv, oi, os, ot, inp, lst, mad, vr, sav)) : (wpX_byteAtPos post (xit, xln, xrd, xop, xil, cnt, xml, wr, pc, nI p, lim, bby, bl, sm, st, tkn, dep, beg, oc, plc, rch, xk, xf, xs, wh, aa, bb, par, ri, rb, rv, oi, os, ot, inp, lst, mad, vr, sav)) :=
  nm_r (nI_1 p) (And.intro (vp_in_nI h (by decide)) (nm_r (by rw [nI_clamp (by omega)]) (nm_e H)))
theorem xx_fin {post : SX → Prop} {p : Nat} (h0 : 0 < p) (h : p ≤ 64) (H : post (xit, xln, xrd, xop, xil, cnt, xml, wr, pc, nI p, lim, bby, bl, sm + bby, st, tkn, dep, beg, oc, plc, rch, xk, xf, xs, wh, aa, bb, par, ri, rb, rv, oi, os, ot, inp, lst, upd mad (p - 1) bby.toInt8.toInt32, vr, sav)) : (wpX_finishByte post (xit, xln, xrd, xop, xil, cnt, xml, wr, pc, nI p, lim, bby, bl, sm, st, tkn, dep, beg, oc, plc, rch, xk, xf, xs, wh, aa, bb, par, ri, rb, rv, oi, os, ot, inp, lst, mad, vr, sav)) :=
  And.intro (by rw [fw_m1 h0]; exact vp_in_nI (by omega) (by decide)) (nm_r (by rw [fw_m1 h0, nI_clamp (by omega), pk_vb]) (nm_e H))
theorem xx_close_r0 {post : SX → Prop} (h : bby &&& (((1 : Int32) <<< (bl &&& 31)) - 1) = 0) (H : post (xit, xln, xrd, xop, xil, cnt, xml, 0, pc, pos, lim, 0, 0, sm, st, tkn, dep, beg, oc, plc, rch, xk, xf, xs, wh, aa, bb, par, ri, rb, rv, oi, os, ot, inp, lst, mad, vr, sav)) : (wpX_closeBits post (xit, xln, xrd, xop, xil, cnt, xml, 0, pc, pos, lim, bby, bl, sm, st, tkn, dep, beg, oc, plc, rch, xk, xf, xs, wh, aa, bb, par, ri, rb, rv, oi, os, ot, inp, lst, mad, vr, sav)) := br_t rfl (br_t h (br_t rfl H))
theorem xx_close_r1 {post : SX → Prop} (h : ¬ bby &&& (((1 : Int32) <<< (bl &&& 31)) - 1) = 0) (H : post (xit, xln, xrd, xop, xil, cnt, xml, 0, pc, pos, lim, 0, 0, sm, st, tkn, dep, beg, 6, pc, beg, xk, xf, xs, wh, aa, bb, par, ri, rb, rv, oi, os, ot, inp, lst, mad, vr, sav)) : (wpX_closeBits post (xit, xln, xrd, xop, xil, cnt, xml, 0, pc, pos, lim, bby, bl, sm, st, tkn, dep, beg, oc, plc, rch, xk, xf, xs, wh, aa, bb, par, ri, rb, rv, oi, os, ot, inp, lst, mad, vr, sav)) := br_t rfl (br_f h (xx_end (by decide) H))
theorem xx_close_w0 {post : SX → Prop} (H : post (xit, xln, xrd, xop, xil, cnt, xml, 1, pc, pos, lim, 0, 0, sm, st, tkn, dep, beg, oc, plc, rch, xk, xf, xs, wh, aa, bb, par, ri, rb, rv, oi, os, ot, inp, lst, mad, vr, sav)) : (wpX_closeBits post (xit, xln, xrd, xop, xil, cnt, xml, 1, pc, pos, lim, bby, nI 0, sm, st, tkn, dep, beg, oc, plc, rch, xk, xf, xs, wh, aa, bb, par, ri, rb, rv, oi, os, ot, inp, lst, mad, vr, sav)) := br_f (by decide) (br_f (by decide) (br_t (by decide) H))
theorem xx_close_w1 {post : SX → Prop} {p b : Nat} (h0 : 0 < p) (h : p ≤ 64) (hb : 0 < b) (hb7 : b ≤ 7) (H : post (xit, xln, xrd, xop, xil, cnt, xml, 1, pc, nI p, lim, 0, 0, sm + bby, st, tkn, dep, beg, oc, plc, rch, xk, xf, xs, wh, aa, bb, par, ri, rb, rv, oi, os, ot, inp, lst, upd mad (p - 1) bby.toInt8.toInt32, vr, sav)) : (wpX_closeBits post (xit, xln, xrd, xop, xil, cnt, xml, 1, pc, nI p, lim, bby, nI b, sm, st, tkn, dep, beg, oc, plc, rch, xk, xf, xs, wh, aa, bb, par, ri, rb, rv, oi, os, ot, inp, lst, mad, vr, sav)) :=
  br_f (by decide) (br_f (by decide) (br_f (nI_nle hb (by omega)) (xx_fin h0 h H)))
theorem yy_close_w {post : Int32 → SY → Prop} (H : post 0 (yit, ysz, yfd, yls, ymd, ysa, ytk, ydp, yps, 0, yst, yus, ynx, yra, 0, yks, yas, ybs, yk, yf, ys, yin, yli, you, yva, yop, ynu, yse, yth)) : (wpY_close post (yit, ysz, yfd, yls, ymd, ysa, ytk, ydp, yps, ybt, yst, yus, ynx, yra, 0, yks, yas, ybs, yk, yf, ys, yin, yli, you, yva, yop, ynu, yse, yth)) := br_t rfl H
theorem yy_close_r0 {post : Int32 → SY → Prop} (H : post 0 (yit, ysz, yfd, yls, ymd, ysa, ytk, ydp, yps, 0, yst, yus, ynx, yra, 1, yks, yas, ybs, yk, yf, ys, yin, yli, you, yva, yop, ynu, yse, yth)) : (wpY_close post (yit, ysz, yfd, yls, ymd, ysa, ytk, ydp, yps, nI 0, yst, yus, ynx, yra, 1, yks, yas, ybs, yk, yf, ys, yin, yli, you, yva, yop, ynu, yse, yth)) := br_f (by decide) (br_t (by decide) H)
theorem yy_close_r {post : Int32 → SY → Prop} {p b : Nat} (h0 : 0 < p) (h : p ≤ 64) (hb : 0 < b) (hb7 : b ≤ 7) (H0 : yin (p - 1) &&& (((1 : Int32) <<< (nI b &&& 31)) - 1) = 0 → post 0 (yit, ysz, yfd, yls, ymd, ysa, ytk, ydp, nI p, 0, yst, yus, ynx, yra, 1, yks, yas, ybs, yk, yf, ys, yin, yli, you, yva, yop, ynu, yse, yth)) (H1 : ¬ yin (p - 1) &&& (((1 : Int32) <<< (nI b &&& 31)) - 1) = 0 → post 6 (yit, ysz, yfd, yls, ymd, ysa, ytk, ydp, nI p, nI b, yst, yus, ynx, yra, 1, yks, yas, ybs, yk, yf, ys, yin, yli, you, yva, yop, ynu, yse, yth)) : (wpY_close post (yit, ysz, yfd, yls, ymd, ysa, ytk, ydp, nI p, nI b, yst, yus, ynx, yra, 1, yks, yas, ybs, yk, yf, ys, yin, yli, you, yva, yop, ynu, yse, yth)) := by
  refine br_f (by decide) (br_f (nI_nle hb (by omega)) (And.intro (by rw [fw_m1 h0]; exact vp_in_nI (by omega) (by decide)) ?_))
  rw [fw_m1 h0, nI_clamp (by omega)]
  exact ⟨H0, H1⟩
theorem fw_c0 : fw_c 0 = 0 := rfl
theorem fw_c1 {b : Nat} (h : 0 < b) : fw_c b = 1 := if_neg (by omega)
/-- both close their bits -/
theorem jj_close {p b B : Nat} (D : fw_DP wr xml ymd p b bby sm inp mad yin you) (M : fw_MD wr yrd yfd B) :
    (∃ (sm' : Int32) (mad' : Nat → Int32), fw_DP wr xml ymd p 0 0 sm' inp mad' yin you ∧ (∀ post : SX → Prop, post (xit, xln, xrd, xop, xil, cnt, xml, wr, pc, nI p, lim, 0, nI 0, sm', st, tkn, dep, beg, oc, plc, rch, xk, xf, xs, wh, aa, bb, par, ri, rb, rv, oi, os, ot, inp, lst, mad', vr, sav) → (wpX_closeBits post (xit, xln, xrd, xop, xil, cnt, xml, wr, pc, nI p, lim, bby, nI b, sm, st, tkn, dep, beg, oc, plc, rch, xk, xf, xs, wh, aa, bb, par, ri, rb, rv, oi, os, ot, inp, lst, mad, vr, sav))) ∧ (∀ post : Int32 → SY → Prop, post 0 (yit, ysz, yfd, yls, ymd, ysa, ytk, ydp, nI p, nI 0, yst, yus, ynx, yra, yrd, yks, yas, ybs, yk, yf, ys, yin, yli, you, yva, yop, ynu, yse, yth) → (wpY_close post (yit, ysz, yfd, yls, ymd, ysa, ytk, ydp, nI p, nI b, yst, yus, ynx, yra, yrd, yks, yas, ybs, yk, yf, ys, yin, yli, you, yva, yop, ynu, yse, yth)))) ∨
    (wr = 0 ∧ (∀ post : SX → Prop, post (xit, xln, xrd, xop, xil, cnt, xml, wr, pc, nI p, lim, 0, 0, sm, st, tkn, dep, beg, 6, pc, beg, xk, xf, xs, wh, aa, bb, par, ri, rb, rv, oi, os, ot, inp, lst, mad, vr, sav) → (wpX_closeBits post (xit, xln, xrd, xop, xil, cnt, xml, wr, pc, nI p, lim, bby, nI b, sm, st, tkn, dep, beg, oc, plc, rch, xk, xf, xs, wh, aa, bb, par, ri, rb, rv, oi, os, ot, inp, lst, mad, vr, sav))) ∧ (∀ post : Int32 → SY → Prop, post 6 (yit, ysz, yfd, yls, ymd, ysa, ytk, ydp, nI p, nI b, yst, yus, ynx, yra, yrd, yks, yas, ybs, yk, yf, ys, yin, yli, you, yva, yop, ynu, yse, yth) → (wpY_close post (yit, ysz, yfd, yls, ymd, ysa, ytk, ydp, nI p, nI b, yst, yus, ynx, yra, yrd, yks, yas, ybs, yk, yf, ys, yin, yli, you, yva, yop, ynu, yse, yth)))) := by
  obtain ⟨hb7, hp, hbp, hin, hD⟩ := D
  obtain ⟨_, hM⟩ := M
  rcases hD with ⟨rfl, h1, h2, h3⟩ | ⟨rfl, h1, h2, h3⟩
  · have hr : yrd = 1 := by
      rcases hM with ⟨_, h, _⟩ | ⟨h, _⟩
      · exact h
      · exact absurd h (by decide)
    subst hr
    rcases Nat.eq_zero_or_pos b with rfl | hb
    · refine Or.inl ⟨sm, mad, ⟨by omega, hp, fun z => absurd z (by omega), hin, Or.inl ⟨rfl, fun z => absurd z (by omega), h2, h3⟩⟩, fun post H => xx_close_r0 ?_ H, fun post H => yy_close_r0 H⟩
      exact fw_and0 bby
    · by_cases z : yin (p - 1) &&& (((1 : Int32) <<< (nI b &&& 31)) - 1) = 0
      · refine Or.inl ⟨sm, mad, ⟨by omega, hp, fun z => absurd z (by omega), hin, Or.inl ⟨rfl, fun z => absurd z (by omega), h2, h3⟩⟩, fun post H => xx_close_r0 ?_ H, fun post H => yy_close_r (hbp hb) hp hb hb7 (fun _ => H) (fun z' => absurd z z')⟩
        rw [h1 hb]; exact z
      · refine Or.inr ⟨rfl, fun post H => xx_close_r1 ?_ H, fun post H => yy_close_r (hbp hb) hp hb hb7 (fun z' => absurd z' z) (fun _ => H)⟩
        rw [h1 hb]; exact z
  · have hr : yrd = 0 := by
      rcases hM with ⟨h, _⟩ | ⟨_, h, _⟩
      · exact absurd h (by decide)
      · exact h
    subst hr
    rcases Nat.eq_zero_or_pos b with rfl | hb
    · exact Or.inl ⟨sm, mad, ⟨by omega, hp, fun z => absurd z (by omega), hin, Or.inr ⟨rfl, fun z => absurd z (by omega), h2, h3⟩⟩, fun post H => xx_close_w0 H, fun post H => yy_close_w H⟩
    · obtain ⟨e1, e2⟩ := h1 hb
      have hp0 := hbp hb
      rw [fw_c1 hb] at h2 h3
      refine Or.inl ⟨sm + bby, upd mad (p - 1) bby.toInt8.toInt32, ⟨by omega, hp, fun z => absurd z (by omega), hin, Or.inr ⟨rfl, fun z => absurd z (by omega), ?_, ?_⟩⟩, fun post H => xx_close_w1 hp0 hp hb hb7 H, fun post H => yy_close_w H⟩
      · rw [fw_c0, h2, e1]
        obtain ⟨q, rfl⟩ : ∃ q, p = q + 1 := ⟨p - 1, by omega⟩
        rfl
      · intro j hj
        rw [fw_c0] at hj
        by_cases e : j = p - 1
        · rw [e, pk_us, bp_b, e2, e1]
        · rw [pk_un e]; exact h3 j (by omega)
/-- the reference's limit -/
theorem yy_lim {post : Int32 → Prop} {B : Nat} (M : fw_MD wr yrd yfd B) : ∀ (s : List (Nat × Nat)) (t : List Nat), s.length ≤ 4 → fw_SK yk B yop ynu sav s t → post (nI (fw_LM yk B s)) → ∀ n, s.length < n → (wY_limit_7 post yit ysz yfd yls ymd ysa ytk ydp yps ybt yst yus ynx yra yrd yks yas ybs yk yf ys yin yli you yva yop ynu yse yth n (nI s.length - 1))
  | [], _, _, _, H, n, hn => by
    obtain ⟨n, rfl⟩ : ∃ q, n = q + 1 := ⟨n - 1, by omega⟩
    refine br_t (by decide) ?_
    obtain ⟨_, ⟨_, rfl, rfl⟩ | ⟨_, rfl, rfl⟩⟩ := M
    · exact br_f (by decide) H
    · exact br_t rfl H
  | (o, m) :: s, [], _, h, _, _, _ => h.elim
  | (o, m) :: s, x :: t, hl, h, H, n, hn => by
    obtain ⟨n, rfl⟩ : ∃ q, n = q + 1 := ⟨n - 1, by omega⟩
    rw [List.length_cons] at hl hn
    have e : nI (((o, m) :: s).length) - 1 = nI s.length := nI_pred s.length
    rw [e]
    have c : (nI s.length).toNatClampNeg = s.length := nI_clamp (by omega)
    have ho : yop (nI s.length).toNatClampNeg = nI o := by rw [c]; exact h.2.2.1
    have co : (nI o).toNatClampNeg = o := nI_clamp (by have := h.1; omega)
    refine br_f (nI_pos (by omega)) (And.intro (vp_in_nI (by omega) (by decide)) (And.intro (by rw [ho]; exact vp_in_nI h.1 (by decide)) ?_))
    rw [ho, co]
    by_cases k6 : yk o = 6
    · refine br_t k6 (And.intro (vp_in_nI (by omega) (by decide)) ?_)
      rw [fw_LM, if_pos k6] at H
      rcases h.2.2.2.1 with ⟨h4, _⟩ | h5 | ⟨_, _, a, _⟩
      · rw [k6] at h4; exact absurd h4 (by decide)
      · rw [k6] at h5; exact absurd h5 (by decide)
      · rw [c, a]; exact H
    · rw [fw_LM, if_neg k6] at H
      refine br_f k6 (nm_r (Int32.sub_eq_add_neg ..).symm ?_)
      exact yy_lim M s t (by omega) h.2.2.2.2 H n (by omega)
theorem yy_room {post : Int32 → Prop} {B p q : Nat} {s : List (Nat × Nat)} {t : List Nat} (M : fw_MD wr yrd yfd B) (S : fw_SK yk B yop ynu sav s t) (hl : s.length ≤ 4) (hp : p ≤ fw_LM yk B s) (hq : q < 2 ^ 31) (H1 : p + q ≤ fw_LM yk B s → post 1) (H0 : fw_LM yk B s < p + q → post 0) : (wpY_room post (yit, ysz, yfd, yls, ymd, ysa, ytk, nI s.length, nI p, ybt, yst, yus, ynx, yra, yrd, yks, yas, ybs, yk, yf, ys, yin, yli, you, yva, yop, ynu, yse, yth) (nI q)) := by
  have hB := fw_LM_le S
  have hB' := M.1
  refine nm_e ⟨s.length + 1, yy_lim M s t hl S ?_ _ (by omega)⟩
  show ((nI (fw_LM yk B s) - nI p) < nI q → post 0) ∧ (¬ (nI (fw_LM yk B s) - nI p) < nI q → post 1)
  rw [pk_sub hp]
  exact pk_lt (fw_LM yk B s - p) q (fun z => H0 (by omega)) (fun z => H1 (by omega))
theorem yy_keep {post : Int32 → SY → Prop} {c : Nat} {v x : Int32} (hv : vp_in v 8) (hc : c < 40) (H : post 0 (yit, ysz, yfd, nI (c + 1), ymd, ysa, ytk, ydp, yps, ybt, yst, yus, ynx, yra, yrd, yks, yas, ybs, yk, yf, ys, yin, upd yli c x, you, upd yva v.toNatClampNeg x, yop, ynu, yse, yth)) : (wpY_keep post (yit, ysz, yfd, nI c, ymd, ysa, ytk, ydp, yps, ybt, yst, yus, ynx, yra, yrd, yks, yas, ybs, yk, yf, ys, yin, yli, you, yva, yop, ynu, yse, yth) v x) :=
  And.intro hv (nm_e (nm_r (nI_1 c) (And.intro (vp_in_nI hc (by decide)) (nm_r (by rw [nI_clamp (by omega)]) H))))
theorem yy_exact_w {post : Int32 → SY → Prop} {p : Nat} {v w : Int32} (h : p < 64) (H : post 0 (yit, ysz, yfd, yls, ymd, ysa, ytk, ydp, nI (p + 1), ybt, yst, yus, ynx, yra, 0, yks, yas, ybs, yk, yf, ys, yin, yli, upd you p v, yva, yop, ynu, yse, yth)) : (wpY_exact post (yit, ysz, yfd, yls, ymd, ysa, ytk, ydp, nI p, ybt, yst, yus, ynx, yra, 0, yks, yas, ybs, yk, yf, ys, yin, yli, you, yva, yop, ynu, yse, yth) v w) :=
  br_t rfl (br_t rfl (And.intro (vp_in_nI h (by decide)) (nm_r (by rw [nI_clamp (by omega)]) (nm_r (nI_1 p) H))))
theorem yy_exact_r {post : Int32 → SY → Prop} {p : Nat} {v w : Int32} (h : p < 64) (H0 : yin p = v → post 0 (yit, ysz, yfd, yls, ymd, ysa, ytk, ydp, nI (p + 1), ybt, yst, yus, ynx, yra, 1, yks, yas, ybs, yk, yf, ys, yin, yli, you, yva, yop, ynu, yse, yth)) (H1 : ¬ yin p = v → post w (yit, ysz, yfd, yls, ymd, ysa, ytk, ydp, nI p, ybt, yst, yus, ynx, yra, 1, yks, yas, ybs, yk, yf, ys, yin, yli, you, yva, yop, ynu, yse, yth)) : (wpY_exact post (yit, ysz, yfd, yls, ymd, ysa, ytk, ydp, nI p, ybt, yst, yus, ynx, yra, 1, yks, yas, ybs, yk, yf, ys, yin, yli, you, yva, yop, ynu, yse, yth) v w) := by
  refine br_f (by decide) (And.intro (vp_in_nI h (by decide)) ?_)
  rw [nI_clamp (by omega)]
  exact ⟨fun z => br_f (by decide) (nm_r (nI_1 p) (H0 z)), H1⟩
end
section
/-! whole numbers -/
variable {xit xln xrd xop xil cnt xml wr pc pos lim bby bl sm st tkn dep beg oc plc rch : Int32} {xk xf xs wh aa bb par ri rb rv oi os ot inp lst mad vr sav : Nat → Int32} {yit ysz yfd yls ymd ysa ytk ydp yps ybt yst yus ynx yra yrd : Int32} {yks yas ybs yk yf ys yin yli you yva yop ynu yse yth : Nat → Int32}
/-- the number of the first k of a's bytes from p on -/
def fw_nv (f : Nat → Int32) (p : Nat) (a low : Int32) : Nat → Int32
  | 0 => 0
  | k + 1 => fw_nv f p a low k ||| (f (p + k) <<< ((8 * (if low = 0 then (a - 1) - nI k else nI k)) &&& 31))
def fw_lo (how : Int32) : Int32 := if how &&& 8 = 0 then 0 else 1
def fw_num (f : Nat → Int32) (p a : Nat) (how : Int32) : Int32 :=
  if how &&& 16 = 0 then fw_nv f p (nI a) (fw_lo how) a else (fw_nv f p (nI a) (fw_lo how) a <<< ((32 - 8 * nI a) &&& 31)) >>> ((32 - 8 * nI a) &&& 31)
theorem xx_nr {post : SX → Prop} {a p c : Nat} {v low sg rest : Int32} (hin : ∀ j, yin j = inp j &&& 255) (hp : p + a ≤ 64) (hc : c < 40) (hv : vp_in v 8)
    (H : ∀ x, x = (if sg = 0 then fw_nv yin p (nI a) low a else (fw_nv yin p (nI a) low a <<< (rest &&& 31)) >>> (rest &&& 31)) → post (xit, xln, xrd, xop, xil, nI (c + 1), xml, 0, pc, nI (p + a), lim, bby, bl, fw_sum yin (p + a), st, tkn, dep, beg, oc, plc, rch, xk, xf, xs, wh, aa, bb, par, ri, rb, rv, oi, os, ot, inp, upd lst c x, mad, upd vr v.toNatClampNeg x, sav)) :
    ∀ d k, k + d = a → ∀ n, d < n → (wX_number_201 post (nI a) v low sg rest n (fw_nv yin p (nI a) low k) (nI k) xit xln xrd xop xil (nI c) xml 0 pc (nI (p + k)) lim bby bl (fw_sum yin (p + k)) st tkn dep beg oc plc rch xk xf xs wh aa bb par ri rb rv oi os ot inp lst mad vr sav)
  | 0, k, h, n, hn => by
    obtain ⟨n, rfl⟩ : ∃ q, n = q + 1 := ⟨n - 1, by omega⟩
    obtain rfl : k = a := by omega
    refine br_t (Int32.le_refl _) ?_
    by_cases z : sg = 0
    · exact br_t z (xx_keep_r hv hc (H _ (if_pos z).symm))
    · exact br_f z (xx_keep_r hv hc (H _ (if_neg z).symm))
  | d + 1, k, h, n, hn => by
    obtain ⟨n, rfl⟩ : ∃ q, n = q + 1 := ⟨n - 1, by omega⟩
    have e : fw_sum yin (p + k) + (inp (p + k) &&& 255) = fw_sum yin (p + (k + 1)) := by rw [← hin]; rfl
    refine br_f (nI_ge (by omega) (by omega)) (xx_byte (by omega) ?_)
    rw [e]
    by_cases z : low = 0
    · refine br_t z (nm_r (e' := fw_nv yin p (nI a) low (k + 1)) ?_ (nm_r (nI_1 k) (xx_nr hin hp hc hv H d (k + 1) (by omega) n (by omega))))
      rw [fw_nv, if_pos z, hin]
    · refine br_f z (nm_r (e' := fw_nv yin p (nI a) low (k + 1)) ?_ (nm_r (nI_1 k) (xx_nr hin hp hc hv H d (k + 1) (by omega) n (by omega))))
      rw [fw_nv, if_neg z, hin]
theorem xx_num_r {post : SX → Prop} {a p c L : Nat} {how : Int32} (hin : ∀ j, yin j = inp j &&& 255) (hL : L ≤ 64) (ha : a ≤ 4) (hp : p ≤ L) (hc : c < 40)
    (H1 : p + a ≤ L → post (xit, xln, xrd, xop, xil, nI (c + 1), xml, 0, pc, nI (p + a), nI L, bby, bl, fw_sum yin (p + a), st, tkn, dep, beg, oc, plc, rch, xk, xf, xs, wh, aa, bb, par, ri, rb, rv, oi, os, ot, inp, upd lst c (fw_num yin p a how), mad, upd vr (how &&& 7).toNatClampNeg (fw_num yin p a how), sav))
    (H0 : L < p + a → post (xit, xln, xrd, xop, xil, nI c, xml, 0, pc, nI p, nI L, bby, bl, fw_sum yin p, st, tkn, dep, beg, 3, pc, beg, xk, xf, xs, wh, aa, bb, par, ri, rb, rv, oi, os, ot, inp, lst, mad, vr, sav)) :
    (wpX_number post (xit, xln, xrd, xop, xil, nI c, xml, 0, pc, nI p, nI L, bby, bl, fw_sum yin p, st, tkn, dep, beg, oc, plc, rch, xk, xf, xs, wh, aa, bb, par, ri, rb, rv, oi, os, ot, inp, lst, mad, vr, sav) (nI a) how) := by
  refine nm_e ?_
  have G : ∀ low sg : Int32, (low = fw_lo how) → (sg = 0 ↔ how &&& 16 = 0) → (wX_number_31 post (nI a) (how &&& 7) low sg xit xln xrd xop xil (nI c) xml 0 pc (nI p) (nI L) bby bl (fw_sum yin p) st tkn dep beg oc plc rch xk xf xs wh aa bb par ri rb rv oi os ot inp lst mad vr sav) := by
    intro low sg hlow hsg
    refine nm_e (br_t rfl ?_)
    rw [nI_add]
    refine pk_le (p + a) L (fun h => ⟨a + 1, xx_nr hin (by omega) hc (fw_in7 how) ?_ a 0 (by omega) (a + 1) (by omega)⟩) (fun h => xx_end (by decide) (H0 h))
    intro x hx
    have : x = fw_num yin p a how := by
      rw [hx, fw_num, ← hlow]
      by_cases z : sg = 0
      · rw [if_pos z, if_pos (hsg.mp z)]
      · rw [if_neg z, if_neg (fun w => z (hsg.mpr w))]
    rw [this]
    exact H1 h
  by_cases h8 : how &&& 8 = 0
  · have e : (0 : Int32) = fw_lo how := (if_pos h8).symm
    refine br_t h8 ?_
    by_cases h16 : how &&& 16 = 0
    · exact br_t h16 (G 0 0 e ⟨fun _ => h16, fun _ => rfl⟩)
    · exact br_f h16 (G 0 1 e ⟨fun z => absurd z (by decide), fun z => absurd z h16⟩)
  · have e : (1 : Int32) = fw_lo how := (if_neg h8).symm
    refine br_f h8 ?_
    by_cases h16 : how &&& 16 = 0
    · exact br_t h16 (G 1 0 e ⟨fun _ => h16, fun _ => rfl⟩)
    · exact br_f h16 (G 1 1 e ⟨fun z => absurd z (by decide), fun z => absurd z h16⟩)
theorem yy_nr {post : Int32 → SY → Prop} {a p c i : Nat} {v low : Int32} (hp : p + a ≤ 64) (hc : c < 40) (hi : i < 40) (hv : vp_in v 8)
    (H : ∀ x, x = (if ys i &&& 16 = 0 then fw_nv yin p (nI a) low a else (fw_nv yin p (nI a) low a <<< ((32 - 8 * nI a) &&& 31)) >>> ((32 - 8 * nI a) &&& 31)) → post 0 (yit, ysz, yfd, nI (c + 1), ymd, ysa, ytk, ydp, nI (p + a), ybt, yst, yus, ynx, yra, yrd, yks, yas, ybs, yk, yf, ys, yin, upd yli c x, you, upd yva v.toNatClampNeg x, yop, ynu, yse, yth)) :
    ∀ d k, k + d = a → ∀ n, d < n → (wY_take_72 post (nI i) v (nI a) low yit ysz yfd (nI c) ymd ysa ytk ydp (nI p) ybt yst yus ynx yra yrd yks yas ybs yk yf ys yin yli you yva yop ynu yse yth n (fw_nv yin p (nI a) low k) (nI k))
  | 0, k, h, n, hn => by
    obtain ⟨n, rfl⟩ : ∃ q, n = q + 1 := ⟨n - 1, by omega⟩
    obtain rfl : k = a := by omega
    refine br_t (Int32.le_refl _) (nm_r (nI_add p k) (And.intro (vp_in_nI hi (by decide)) ?_))
    rw [nI_clamp (by omega)]
    by_cases z : ys i &&& 16 = 0
    · exact br_t z (yy_keep hv hc (H _ (if_pos z).symm))
    · exact br_f z (nm_e (yy_keep hv hc (H _ (if_neg z).symm)))
  | d + 1, k, h, n, hn => by
    obtain ⟨n, rfl⟩ : ∃ q, n = q + 1 := ⟨n - 1, by omega⟩
    refine br_f (nI_ge (by omega) (by omega)) ?_
    rw [nI_add, nI_clamp (by omega)]
    refine And.intro (vp_in_nI (by omega) (by decide)) ?_
    by_cases z : low = 0
    · refine br_t z (nm_r (e' := fw_nv yin p (nI a) low (k + 1)) ?_ (nm_r (nI_1 k) (yy_nr hp hc hi hv H d (k + 1) (by omega) n (by omega))))
      rw [fw_nv, if_pos z]
    · refine br_f z (nm_r (e' := fw_nv yin p (nI a) low (k + 1)) ?_ (nm_r (nI_1 k) (yy_nr hp hc hi hv H d (k + 1) (by omega) n (by omega))))
      rw [fw_nv, if_neg z]
theorem yy_num_r {post : Int32 → SY → Prop} {a p c i B : Nat} {s : List (Nat × Nat)} {t : List Nat} (M : fw_MD wr yrd yfd B) (S : fw_SK yk B yop ynu sav s t) (hl : s.length ≤ 4) (hp : p ≤ fw_LM yk B s) (hi : i < 40) (ha : a ≤ 4) (hf : yf i = nI a) (hc : c < 40)
    (H1 : p + a ≤ fw_LM yk B s → post 0 (yit, ysz, yfd, nI (c + 1), ymd, ysa, ytk, nI s.length, nI (p + a), ybt, yst, yus, ynx, yra, yrd, yks, yas, ybs, yk, yf, ys, yin, upd yli c (fw_num yin p a (ys i)), you, upd yva (ys i &&& 7).toNatClampNeg (fw_num yin p a (ys i)), yop, ynu, yse, yth))
    (H0 : fw_LM yk B s < p + a → post 3 (yit, ysz, yfd, nI c, ymd, ysa, ytk, nI s.length, nI p, ybt, yst, yus, ynx, yra, yrd, yks, yas, ybs, yk, yf, ys, yin, yli, you, yva, yop, ynu, yse, yth)) :
    (wpY_take post (yit, ysz, yfd, nI c, ymd, ysa, ytk, nI s.length, nI p, ybt, yst, yus, ynx, yra, yrd, yks, yas, ybs, yk, yf, ys, yin, yli, you, yva, yop, ynu, yse, yth) 0 (nI i) (ys i &&& 7)) := by
  have hB := fw_LM_le S
  have hB' := M.1
  refine And.intro (vp_in_nI hi (by decide)) (nm_r (e' := nI a) (by rw [nI_clamp (by omega)]; exact hf) (br_f (by decide) (br_t rfl ?_)))
  refine yy_room M S hl hp (by omega) (fun h => br_f (by decide) (br_t rfl (And.intro (vp_in_nI hi (by decide)) ?_))) (fun h => br_t rfl (H0 h))
  rw [nI_clamp (by omega)]
  have G : ∀ low : Int32, low = fw_lo (ys i) → ∃ n72 : Nat, (wY_take_72 post (nI i) (ys i &&& 7) (nI a) low yit ysz yfd (nI c) ymd ysa ytk (nI s.length) (nI p) ybt yst yus ynx yra yrd yks yas ybs yk yf ys yin yli you yva yop ynu yse yth n72 0 0) := by
    intro low hlow
    refine ⟨a + 1, yy_nr (by omega) hc hi (fw_in7 _) ?_ a 0 (by omega) (a + 1) (by omega)⟩
    intro x hx
    have : x = fw_num yin p a (ys i) := by rw [hx, fw_num, ← hlow]
    rw [this]
    exact H1 h
  by_cases h8 : ys i &&& 8 = 0
  · exact br_t h8 (G 0 (if_pos h8).symm)
  · exact br_f h8 (G 1 (if_neg h8).symm)
/-! what is made: k bytes from p on -/
def fw_em8 (g : Nat → Int32) (p : Nat) (m : Nat → Int32) : Nat → (Nat → Int32)
  | 0 => m
  | k + 1 => upd (fw_em8 g p m k) (p + k) (g k).toInt8.toInt32
def fw_emY (g : Nat → Int32) (p : Nat) (m : Nat → Int32) : Nat → (Nat → Int32)
  | 0 => m
  | k + 1 => upd (fw_emY g p m k) (p + k) (g k)
def fw_emS (g : Nat → Int32) (s : Int32) : Nat → Int32
  | 0 => s
  | k + 1 => fw_emS g s k + (g k &&& 255)
theorem fw_emY_lo {g : Nat → Int32} {p : Nat} {m : Nat → Int32} {j : Nat} (h : j < p) : ∀ k, fw_emY g p m k j = m j
  | 0 => rfl
  | k + 1 => by rw [fw_emY, pk_un (by omega), fw_emY_lo h k]
theorem fw_em_rel {g g' : Nat → Int32} {p : Nat} {mad you : Nat → Int32} {sm : Int32} (hg : ∀ k, g' k = g k &&& 255) (h : ∀ j, j < p → mad j &&& 255 = you j) (hs : sm = fw_sum you p) :
    ∀ k, (∀ j, j < p + k → fw_em8 g p mad k j &&& 255 = fw_emY g' p you k j) ∧ fw_emS g sm k = fw_sum (fw_emY g' p you k) (p + k)
  | 0 => ⟨h, hs⟩
  | k + 1 => by
    obtain ⟨h1, h2⟩ := fw_em_rel hg h hs k
    constructor
    · intro j hj
      rw [fw_em8, fw_emY]
      by_cases e : j = p + k
      · rw [e, pk_us, pk_us, bp_b, hg]
      · rw [pk_un e, pk_un e]; exact h1 j (by omega)
    · rw [fw_emS, h2]
      show _ = fw_sum (fw_emY g' p you (k + 1)) (p + k) + fw_emY g' p you (k + 1) (p + k)
      rw [fw_emY, pk_us, hg]
      congr 1
      exact fw_sum_congr _ (fun j hj => (pk_un (by omega)).symm)
theorem fw_DP_em {xml ymd : Int32} {p k : Nat} {bby bby' sm : Int32} {inp mad yin you g g' : Nat → Int32} (D : fw_DP 1 xml ymd p 0 bby sm inp mad yin you) (hk : p + k ≤ 64) (hg : ∀ k, g' k = g k &&& 255) : fw_DP 1 xml ymd (p + k) 0 bby' (fw_emS g sm k) inp (fw_em8 g p mad k) yin (fw_emY g' p you k) := by
  obtain ⟨_, _, _, hin, ⟨h, _⟩ | ⟨_, _, h2, h3⟩⟩ := D
  · exact absurd h (by decide)
  · obtain ⟨a, b⟩ := fw_em_rel (sm := sm) hg h3 h2 k
    exact ⟨by omega, hk, fun z => absurd z (by omega), hin, Or.inr ⟨rfl, fun z => absurd z (by omega), b, a⟩⟩
/-! does a value fit -/
theorem fw_un {r w : Nat} (h : r + w = 32) (hr : 0 < r) (hw : 0 < w) (x : Int32) : ((x <<< (nI r &&& 31)).toUInt32 >>> ((nI r).toUInt32 &&& Int32.toUInt32 31)).toInt32 = x ↔ x >>> (nI w &&& 31) = 0 := by
  constructor
  · intro e
    have hj : ∀ j, w ≤ j → bt x j = false := by
      intro j hj
      rw [← e, b_ushr r (by omega)]
      exact b_big (by omega)
    apply b_ext
    intro i hi
    rw [b_sshr w (by omega) x hi, b_0]
    split
    · exact hj _ (by omega)
    · exact hj _ (by omega)
  · intro e
    apply b_ext
    intro i hi
    rw [b_ushr r (by omega)]
    by_cases z : r + i < 32
    · rw [b_shl r (by omega) x z, decide_eq_true (by omega : r ≤ r + i), Bool.true_and, Nat.add_sub_cancel_left]
    · have q : bt (x >>> (nI w &&& 31)) (i - w) = false := by rw [e, b_0]
      rw [b_sshr w (by omega) x (by omega), if_pos (by omega), show w + (i - w) = i by omega] at q
      rw [q]
      exact b_big (by omega)
theorem fw_si {r w : Nat} (h : r + w = 32) (hr : 0 < r) (hw : 0 < w) (x : Int32) : (x <<< (nI r &&& 31)) >>> (nI r &&& 31) = x ↔ (x >>> (nI (w - 1) &&& 31) = 0 ∨ x >>> (nI (w - 1) &&& 31) = -1) := by
  have L : ∀ i, i < 32 → bt ((x <<< (nI r &&& 31)) >>> (nI r &&& 31)) i = if i < w then bt x i else bt x (w - 1) := by
    intro i hi
    rw [b_sshr r (by omega) _ hi]
    by_cases z : i < w
    · rw [if_pos (by omega), if_pos z, b_shl r (by omega) x (by omega), decide_eq_true (by omega : r ≤ r + i), Bool.true_and, Nat.add_sub_cancel_left]
    · rw [if_neg (by omega), if_neg z, b_shl r (by omega) x (by omega), decide_eq_true (by omega : r ≤ 31), Bool.true_and, show 31 - r = w - 1 by omega]
  have R : ∀ i, i < 32 → bt (x >>> (nI (w - 1) &&& 31)) i = if w - 1 + i < 32 then bt x (w - 1 + i) else bt x 31 := fun i hi => b_sshr (w - 1) (by omega) x hi
  constructor
  · intro e
    have hj : ∀ j, w - 1 ≤ j → j < 32 → bt x j = bt x (w - 1) := by
      intro j h1 h2
      by_cases z : j < w
      · rw [show j = w - 1 by omega]
      · have := L j h2
        rw [e, if_neg z] at this
        exact this
    cases q : bt x (w - 1) with
    | false =>
      refine Or.inl (b_ext (fun i hi => ?_))
      rw [R i hi, b_0]
      split
      · rw [hj _ (by omega) (by omega), q]
      · rw [hj _ (by omega) (by omega), q]
    | true =>
      refine Or.inr (b_ext (fun i hi => ?_))
      rw [R i hi, b_m1 i hi]
      split
      · rw [hj _ (by omega) (by omega), q]
      · rw [hj _ (by omega) (by omega), q]
  · intro e
    have hj : ∀ j, w - 1 ≤ j → j < 32 → bt x j = bt x (w - 1) := by
      intro j h1 h2
      have a := R (j - (w - 1)) (by omega)
      have b := R 0 (by omega)
      rw [if_pos (by omega), show w - 1 + (j - (w - 1)) = j by omega] at a
      rw [if_pos (by omega), Nat.add_zero] at b
      rcases e with e | e
      · rw [← a, ← b, e, b_0, b_0]
      · rw [← a, ← b, e, b_m1 _ (by omega), b_m1 _ (by omega)]
    apply b_ext
    intro i hi
    rw [L i hi]
    split
    · rfl
    · exact (hj i (by omega) hi).symm
/-- the component's test, by the width a in bytes -/
def fw_ok (x : Int32) (a : Nat) (how : Int32) : Prop :=
  if how &&& 16 = 0 then ((x <<< ((32 - 8 * nI a) &&& 31)).toUInt32 >>> ((32 - 8 * nI a).toUInt32 &&& Int32.toUInt32 31)).toInt32 = x else (x <<< ((32 - 8 * nI a) &&& 31)) >>> ((32 - 8 * nI a) &&& 31) = x
theorem fw_8 (a : Nat) : (8 : Int32) * nI a = nI (8 * a) := pk_mul 8 a
theorem fw_32 {a : Nat} (h : a ≤ 4) : (32 : Int32) - 8 * nI a = nI (32 - 8 * a) := by
  rw [fw_8]; exact pk_sub (a := 32) (b := 8 * a) (by omega)
theorem fw_ok4 (x how : Int32) : fw_ok x 4 how := by
  unfold fw_ok
  rw [fw_32 (by omega)]
  have e1 : x <<< (nI (32 - 8 * 4) &&& 31) = x := b_ext (fun i hi => by rw [show 32 - 8 * 4 = 0 from rfl, b_shl 0 (by omega) x hi]; simp)
  rw [e1]
  split
  · exact b_ext (fun i hi => by rw [show 32 - 8 * 4 = 0 from rfl, b_ushr 0 (by omega) x, Nat.zero_add])
  · exact b_ext (fun i hi => by rw [show 32 - 8 * 4 = 0 from rfl, b_sshr 0 (by omega) x hi, Nat.zero_add, if_pos hi])
theorem fw_ok_u {a : Nat} {x how : Int32} (h1 : 1 ≤ a) (h4 : a < 4) (h : how &&& 16 = 0) : fw_ok x a how ↔ x >>> ((8 * nI a) &&& 31) = 0 := by
  rw [fw_ok, if_pos h, fw_32 (by omega), fw_8]
  exact fw_un (by omega) (by omega) (by omega) x
theorem fw_ok_s {a : Nat} {x how : Int32} (h1 : 1 ≤ a) (h4 : a < 4) (h : ¬ how &&& 16 = 0) : fw_ok x a how ↔ (x >>> ((8 * nI a - 1) &&& 31) = 0 ∨ x >>> ((8 * nI a - 1) &&& 31) = -1) := by
  rw [fw_ok, if_neg h, fw_32 (by omega), fw_8, fw_m1 (by omega)]
  exact fw_si (by omega) (by omega) (by omega) x
end
section
/-! whole numbers and groups, written -/
variable {xit xln xrd xop xil cnt xml wr pc pos lim bby bl sm st tkn dep beg oc plc rch : Int32} {xk xf xs wh aa bb par ri rb rv oi os ot inp lst mad vr sav : Nat → Int32} {yit ysz yfd yls ymd ysa ytk ydp yps ybt yst yus ynx yra yrd : Int32} {yks yas ybs yk yf ys yin yli you yva yop ynu yse yth : Nat → Int32}
def fw_nb (x a low : Int32) (k : Nat) : Int32 := x >>> ((8 * (if low = 0 then (a - 1) - nI k else nI k)) &&& 31)
theorem xx_nw {post : SX → Prop} {a p k : Nat} {v low x : Int32} (hp : p + a ≤ 64) (ha : a ≤ 4) (hv : vp_in v 8)
    (H : post (xit, xln, xrd, xop, xil, cnt, xml, 1, pc, nI (p + a), lim, bby, bl, fw_emS (fw_nb x (nI a) low) sm a, st, nI (k + 1), dep, beg, oc, plc, rch, xk, xf, xs, wh, aa, bb, par, ri, rb, rv, oi, os, ot, inp, lst, fw_em8 (fw_nb x (nI a) low) p mad a, upd vr v.toNatClampNeg x, sav)) :
    ∀ d q, q + d = a → ∀ n, d < n → (wX_number_130 post (nI a) v low x n (nI q) xit xln xrd xop xil cnt xml 1 pc (nI (p + q)) lim bby bl (fw_emS (fw_nb x (nI a) low) sm q) st (nI k) dep beg oc plc rch xk xf xs wh aa bb par ri rb rv oi os ot inp lst (fw_em8 (fw_nb x (nI a) low) p mad q) vr sav)
  | 0, q, h, n, hn => by
    obtain ⟨n, rfl⟩ : ∃ q, n = q + 1 := ⟨n - 1, by omega⟩
    obtain rfl : q = a := by omega
    exact br_t (Int32.le_refl _) (xx_keep_w hv H)
  | d + 1, q, h, n, hn => by
    obtain ⟨n, rfl⟩ : ∃ q, n = q + 1 := ⟨n - 1, by omega⟩
    refine br_f (nI_ge (by omega) (by omega)) ?_
    have ih := xx_nw hp ha hv H d (q + 1) (by omega) n (by omega)
    by_cases z : low = 0
    · have e : x >>> ((8 * ((nI a - 1) - nI q)) &&& 31) = fw_nb x (nI a) low q := by rw [fw_nb, if_pos z]
      refine br_t z (xx_emit (by omega) (nm_r (nI_1 q) ?_))
      rw [e]; exact ih
    · have e : x >>> ((8 * nI q) &&& 31) = fw_nb x (nI a) low q := by rw [fw_nb, if_neg z]
      refine br_f z (xx_emit (by omega) (nm_r (nI_1 q) ?_))
      rw [e]; exact ih
theorem xx_num_w {post : SX → Prop} {a p k L : Nat} {how : Int32} (hL : L ≤ 64) (ha : a ≤ 4) (hp : p ≤ L) (hk : k < 40)
    (H4 : ¬ fw_ok (lst k) a how → post (xit, xln, xrd, xop, xil, cnt, xml, 1, pc, nI p, nI L, bby, bl, sm, st, nI k, dep, beg, 4, pc, beg, xk, xf, xs, wh, aa, bb, par, ri, rb, rv, oi, os, ot, inp, lst, mad, vr, sav))
    (H3 : fw_ok (lst k) a how → L < p + a → post (xit, xln, xrd, xop, xil, cnt, xml, 1, pc, nI p, nI L, bby, bl, sm, st, nI k, dep, beg, 3, pc, beg, xk, xf, xs, wh, aa, bb, par, ri, rb, rv, oi, os, ot, inp, lst, mad, vr, sav))
    (H0 : fw_ok (lst k) a how → p + a ≤ L → post (xit, xln, xrd, xop, xil, cnt, xml, 1, pc, nI (p + a), nI L, bby, bl, fw_emS (fw_nb (lst k) (nI a) (fw_lo how)) sm a, st, nI (k + 1), dep, beg, (-1), plc, rch, xk, xf, xs, wh, aa, bb, par, ri, rb, rv, oi, os, ot, inp, lst, fw_em8 (fw_nb (lst k) (nI a) (fw_lo how)) p mad a, upd vr (how &&& 7).toNatClampNeg (lst k), sav)) :
    (wpX_number post (xit, xln, xrd, xop, xil, cnt, xml, 1, pc, nI p, nI L, bby, bl, sm, st, nI k, dep, beg, (-1), plc, rch, xk, xf, xs, wh, aa, bb, par, ri, rb, rv, oi, os, ot, inp, lst, mad, vr, sav) (nI a) how) := by
  refine nm_e ?_
  have G : ∀ low bk : Int32, low = fw_lo how → (bk = lst k ↔ fw_ok (lst k) a how) → (wX_number_84 post (nI a) (how &&& 7) low (lst k) bk xit xln xrd xop xil cnt xml 1 pc (nI p) (nI L) bby bl sm st (nI k) dep beg (-1) plc rch xk xf xs wh aa bb par ri rb rv oi os ot inp lst mad vr sav) := by
    intro low bk hlow hbk
    refine ⟨fun z => ?_, fun z => xx_end (by decide) (br_f (by decide) (H4 (fun w => z (hbk.mpr w))))⟩
    rw [nI_add]
    refine pk_le (p + a) L (fun h => br_t (by decide) ⟨a + 1, ?_⟩) (fun h => xx_end (by decide) (br_f (by decide) (H3 (hbk.mp z) h)))
    exact xx_nw (by omega) ha (fw_in7 how) (by rw [hlow]; exact H0 (hbk.mp z) h) a 0 (by omega) (a + 1) (by omega)
  have G2 : ∀ low sg : Int32, low = fw_lo how → (sg = 0 ↔ how &&& 16 = 0) → (wX_number_31 post (nI a) (how &&& 7) low sg xit xln xrd xop xil cnt xml 1 pc (nI p) (nI L) bby bl sm st (nI k) dep beg (-1) plc rch xk xf xs wh aa bb par ri rb rv oi os ot inp lst mad vr sav) := by
    intro low sg hlow hsg
    refine nm_e (br_f (by decide) (And.intro (vp_in_nI hk (by decide)) (nm_r (e' := lst k) (by rw [nI_clamp (by omega)]) ?_)))
    refine ⟨fun z => G low _ hlow ?_, fun z => G low _ hlow ?_⟩
    · rw [fw_ok, if_pos (hsg.mp z)]
    · rw [fw_ok, if_neg (fun w => z (hsg.mpr w))]
  by_cases h8 : how &&& 8 = 0
  · have e : (0 : Int32) = fw_lo how := (if_pos h8).symm
    refine br_t h8 ?_
    by_cases h16 : how &&& 16 = 0
    · exact br_t h16 (G2 0 0 e ⟨fun _ => h16, fun _ => rfl⟩)
    · exact br_f h16 (G2 0 1 e ⟨fun z => absurd z (by decide), fun z => absurd z h16⟩)
  · have e : (1 : Int32) = fw_lo how := (if_neg h8).symm
    refine br_f h8 ?_
    by_cases h16 : how &&& 16 = 0
    · exact br_t h16 (G2 1 0 e ⟨fun _ => h16, fun _ => rfl⟩)
    · exact br_f h16 (G2 1 1 e ⟨fun z => absurd z (by decide), fun z => absurd z h16⟩)
/-! how many groups -/
def fw_gc : Nat → Nat → Nat
  | 0, _ => 0
  | f + 1, r => if r = 0 then 0 else fw_gc f (r / 128) + 1
def fw_gN (x : Int32) : Nat := 1 + fw_gc 4 (x.toBitVec.toNat / 128)
theorem fw_gc_le : ∀ f r, fw_gc f r ≤ f
  | 0, _ => Nat.le_refl _
  | f + 1, r => by
    rw [fw_gc]
    split
    · omega
    · have := fw_gc_le f (r / 128); omega
theorem fw_gN_le (x : Int32) : 1 ≤ fw_gN x ∧ fw_gN x ≤ 5 := by
  have := fw_gc_le 4 (x.toBitVec.toNat / 128)
  unfold fw_gN
  omega
theorem fw_of32 (x : Int32) : x = nI x.toBitVec.toNat := Int32.toBitVec_inj.mp (BitVec.eq_of_toNat_eq (by
  show _ = (BitVec.ofNat 32 _).toNat
  rw [BitVec.toNat_ofNat]
  exact (Nat.mod_eq_of_lt x.toBitVec.isLt).symm))
theorem fw_u7 (x : Int32) : (x.toUInt32 >>> ((7 : Int32).toUInt32 &&& Int32.toUInt32 31)).toInt32 = nI (x.toBitVec.toNat / 128) := by
  have := pk_ushrN x.toBitVec.isLt 7 7 (by decide)
  rw [← fw_of32] at this
  exact this
theorem fw_u7n {r : Nat} (h : r < 2 ^ 31) : ((nI r).toUInt32 >>> ((7 : Int32).toUInt32 &&& Int32.toUInt32 31)).toInt32 = nI (r / 128) := pk_ushrN (by omega) 7 7 (by decide)
theorem fw_r7 (x : Int32) : x.toBitVec.toNat / 128 < 128 ^ 4 := by
  have := x.toBitVec.isLt
  have e : (128 : Nat) ^ 4 = 268435456 := by decide
  omega
theorem xx_grp {post : SX → Prop} {x : Int32} : ∀ f r g, f ≤ 4 → r < 128 ^ f → (∀ n, (wX_putGroups_17 post x xit xln xrd xop xil cnt xml wr pc pos lim bby bl sm st tkn dep beg oc plc rch xk xf xs wh aa bb par ri rb rv oi os ot inp lst mad vr sav (n + 1) (nI (g + fw_gc f r)) 0)) → ∀ n, f < n → (wX_putGroups_17 post x xit xln xrd xop xil cnt xml wr pc pos lim bby bl sm st tkn dep beg oc plc rch xk xf xs wh aa bb par ri rb rv oi os ot inp lst mad vr sav n (nI g) (nI r))
  | 0, r, g, _, hr, H, n, hn => by
    obtain ⟨n, rfl⟩ : ∃ q, n = q + 1 := ⟨n - 1, by omega⟩
    obtain rfl : r = 0 := by omega
    exact H n
  | f + 1, r, g, hf, hr, H, n, hn => by
    obtain ⟨n, rfl⟩ : ∃ q, n = q + 1 := ⟨n - 1, by omega⟩
    have hp : (128 : Nat) ^ (f + 1) ≤ 128 ^ 4 := Nat.pow_le_pow_right (by omega) hf
    have e4 : (128 : Nat) ^ 4 = 268435456 := by decide
    by_cases z : r = 0
    · subst z
      rw [fw_gc, if_pos rfl] at H
      exact H n
    · rw [fw_gc, if_neg z] at H
      refine br_f (nI_ne0 (by omega) (by omega)) (nm_r (nI_1 g) (nm_r (fw_u7n (by omega)) ?_))
      refine xx_grp f (r / 128) (g + 1) (by omega) ?_ ?_ n (by omega)
      · rw [Nat.pow_succ] at hr
        exact Nat.div_lt_of_lt_mul (by rw [Nat.mul_comm]; exact hr)
      · intro n'
        rw [show g + 1 + fw_gc f (r / 128) = g + (fw_gc f (r / 128) + 1) by omega]
        exact H n'
theorem yy_grp {post : Int32 → SY → Prop} {x1 x2 x3 x4 x5 : Int32} : ∀ f r g, f ≤ 4 → r < 128 ^ f → (∀ n, (wY_give_144 post x1 x2 x3 x4 x5 yit ysz yfd yls ymd ysa ytk ydp yps ybt yst yus ynx yra yrd yks yas ybs yk yf ys yin yli you yva yop ynu yse yth (n + 1) (nI (g + fw_gc f r)) 0)) → ∀ n, f < n → (wY_give_144 post x1 x2 x3 x4 x5 yit ysz yfd yls ymd ysa ytk ydp yps ybt yst yus ynx yra yrd yks yas ybs yk yf ys yin yli you yva yop ynu yse yth n (nI g) (nI r))
  | 0, r, g, _, hr, H, n, hn => by
    obtain ⟨n, rfl⟩ : ∃ q, n = q + 1 := ⟨n - 1, by omega⟩
    obtain rfl : r = 0 := by omega
    exact H n
  | f + 1, r, g, hf, hr, H, n, hn => by
    obtain ⟨n, rfl⟩ : ∃ q, n = q + 1 := ⟨n - 1, by omega⟩
    have hp : (128 : Nat) ^ (f + 1) ≤ 128 ^ 4 := Nat.pow_le_pow_right (by omega) hf
    have e4 : (128 : Nat) ^ 4 = 268435456 := by decide
    by_cases z : r = 0
    · subst z
      rw [fw_gc, if_pos rfl] at H
      exact H n
    · rw [fw_gc, if_neg z] at H
      refine br_f (nI_ne0 (by omega) (by omega)) (nm_r (nI_1 g) (nm_r (fw_u7n (by omega)) ?_))
      refine yy_grp f (r / 128) (g + 1) (by omega) ?_ ?_ n (by omega)
      · rw [Nat.pow_succ] at hr
        exact Nat.div_lt_of_lt_mul (by rw [Nat.mul_comm]; exact hr)
      · intro n'
        rw [show g + 1 + fw_gc f (r / 128) = g + (fw_gc f (r / 128) + 1) by omega]
        exact H n'
/-- behind the reference's test of a value -/
theorem yy_g125 {post : Int32 → SY → Prop} {x1 x2 x3 x4 x5 : Int32} (H : ∀ n, (wY_give_144 post x1 x2 x3 x4 x5 yit ysz yfd yls ymd ysa ytk ydp yps ybt yst yus ynx yra yrd yks yas ybs yk yf ys yin yli you yva yop ynu yse yth (n + 1) (nI (fw_gN x4)) 0)) : (wY_give_125 post x1 x2 x3 x4 x5 1 yit ysz yfd yls ymd ysa ytk ydp yps ybt yst yus ynx yra yrd yks yas ybs yk yf ys yin yli you yva yop ynu yse yth) :=
  br_f (by decide) (nm_r (fw_u7 x4) ⟨5, yy_grp 4 _ 1 (by omega) (fw_r7 x4) H 5 (by omega)⟩)
theorem yy_g124 {post : Int32 → SY → Prop} {x1 x2 x3 x4 x5 : Int32} (H : post 4 (yit, ysz, yfd, yls, ymd, ysa, ytk, ydp, yps, ybt, yst, yus, ynx, yra, yrd, yks, yas, ybs, yk, yf, ys, yin, yli, you, yva, yop, ynu, yse, yth)) : (wY_give_124 post x1 x2 x3 x4 x5 yit ysz yfd yls ymd ysa ytk ydp yps ybt yst yus ynx yra yrd yks yas ybs yk yf ys yin yli you yva yop ynu yse yth) := br_t rfl H
theorem yy_nw {post : Int32 → SY → Prop} {a p : Nat} {x low : Int32} (hp : p + a ≤ 64) (ha : a ≤ 4)
    (H : post 0 (yit, ysz, yfd, yls, ymd, ysa, ytk, ydp, nI (p + a), ybt, yst, yus, ynx, yra, yrd, yks, yas, ybs, yk, yf, ys, yin, yli, fw_emY (fun j => fw_nb x (nI a) low j &&& 255) p you a, yva, yop, ynu, yse, yth)) :
    ∀ d q, q + d = a → ∀ n, d < n → (wY_give_240 post x (nI a) low yit ysz yfd yls ymd ysa ytk ydp ybt yst yus ynx yra yrd n (nI q) (nI (p + q)) yks yas ybs yk yf ys yin yli (fw_emY (fun j => fw_nb x (nI a) low j &&& 255) p you q) yva yop ynu yse yth)
  | 0, q, h, n, hn => by
    obtain ⟨n, rfl⟩ : ∃ q, n = q + 1 := ⟨n - 1, by omega⟩
    obtain rfl : q = a := by omega
    exact br_t (Int32.le_refl _) H
  | d + 1, q, h, n, hn => by
    obtain ⟨n, rfl⟩ : ∃ q, n = q + 1 := ⟨n - 1, by omega⟩
    have ih := yy_nw hp ha H d (q + 1) (by omega) n (by omega)
    refine br_f (nI_ge (by omega) (by omega)) (nm_r (nI_1 (p + q)) ?_)
    by_cases z : low = 0
    · refine br_t z (And.intro (vp_in_nI (by omega) (by decide)) (nm_r (e' := fw_emY (fun j => fw_nb x (nI a) low j &&& 255) p you (q + 1)) ?_ (nm_r (nI_1 q) ih)))
      rw [nI_clamp (by omega), fw_emY, fw_nb, if_pos z]
    · refine br_f z (And.intro (vp_in_nI (by omega) (by decide)) (nm_r (e' := fw_emY (fun j => fw_nb x (nI a) low j &&& 255) p you (q + 1)) ?_ (nm_r (nI_1 q) ih)))
      rw [nI_clamp (by omega), fw_emY, fw_nb, if_neg z]
theorem yy_num_w {post : Int32 → SY → Prop} {a p c k i B : Nat} {s : List (Nat × Nat)} {t : List Nat} (M : fw_MD wr yrd yfd B) (S : fw_SK yk B yop ynu sav s t) (hl : s.length ≤ 4) (hp : p ≤ fw_LM yk B s) (hi : i < 40) (h1 : 1 ≤ a) (ha : a ≤ 4) (hf : yf i = nI a) (hk : k < c) (hc : c ≤ 40)
    (H4 : ¬ fw_ok (yli k) a (ys i) → post 4 (yit, ysz, yfd, nI c, ymd, ysa, ytk, nI s.length, nI p, ybt, yst, nI k, ynx, yra, yrd, yks, yas, ybs, yk, yf, ys, yin, yli, you, yva, yop, ynu, yse, yth))
    (H3 : fw_ok (yli k) a (ys i) → fw_LM yk B s < p + a → post 3 (yit, ysz, yfd, nI c, ymd, ysa, ytk, nI s.length, nI p, ybt, yst, nI k, ynx, yra, yrd, yks, yas, ybs, yk, yf, ys, yin, yli, you, yva, yop, ynu, yse, yth))
    (H0 : fw_ok (yli k) a (ys i) → p + a ≤ fw_LM yk B s → post 0 (yit, ysz, yfd, nI c, ymd, ysa, ytk, nI s.length, nI (p + a), ybt, yst, nI (k + 1), ynx, yra, yrd, yks, yas, ybs, yk, yf, ys, yin, yli, fw_emY (fun j => fw_nb (yli k) (nI a) (fw_lo (ys i)) j &&& 255) p you a, upd yva (ys i &&& 7).toNatClampNeg (yli k), yop, ynu, yse, yth)) :
    (wpY_give post (yit, ysz, yfd, nI c, ymd, ysa, ytk, nI s.length, nI p, ybt, yst, nI k, ynx, yra, yrd, yks, yas, ybs, yk, yf, ys, yin, yli, you, yva, yop, ynu, yse, yth) 0 (nI i) (ys i &&& 7)) := by
  have hB := fw_LM_le S
  have hB' := M.1
  have ci : (nI i).toNatClampNeg = i := nI_clamp (by omega)
  refine br_f (by rw [nI_eq (by omega) (by omega)]; omega) (And.intro (vp_in_nI (by omega) (by decide)) (nm_r (e' := yli k) (by rw [nI_clamp (by omega)]) (And.intro (vp_in_nI hi (by decide)) (nm_r (e' := nI a) (by rw [ci]; exact hf) (br_t rfl (br_t rfl (And.intro (vp_in_nI hi (by decide)) ?_)))))))
  rw [ci]
  have GO : fw_ok (yli k) a (ys i) → (wY_give_125 post 0 (nI i) (ys i &&& 7) (yli k) (nI a) 1 yit ysz yfd (nI c) ymd ysa ytk (nI s.length) (nI p) ybt yst (nI k) ynx yra yrd yks yas ybs yk yf ys yin yli you yva yop ynu yse yth) := by
    intro ok
    refine yy_g125 (fun n => br_t rfl (br_t rfl (yy_room M S hl hp (by omega) (fun h => br_f (by decide) ?_) (fun h => br_t rfl (H3 ok h)))))
    refine nm_r (nI_1 k) (And.intro (fw_in7 _) (nm_e (br_t rfl (And.intro (vp_in_nI hi (by decide)) ?_))))
    rw [ci]
    by_cases h8 : ys i &&& 8 = 0
    · have e : fw_lo (ys i) = 0 := if_pos h8
      rw [e] at H0
      exact br_t h8 ⟨a + 1, yy_nw (by omega) ha (H0 ok h) a 0 (by omega) (a + 1) (by omega)⟩
    · have e : fw_lo (ys i) = 1 := if_neg h8
      rw [e] at H0
      exact br_f h8 ⟨a + 1, yy_nw (by omega) ha (H0 ok h) a 0 (by omega) (a + 1) (by omega)⟩
  have NO : ¬ fw_ok (yli k) a (ys i) → (wY_give_124 post 0 (nI i) (ys i &&& 7) (yli k) (nI a) yit ysz yfd (nI c) ymd ysa ytk (nI s.length) (nI p) ybt yst (nI k) ynx yra yrd yks yas ybs yk yf ys yin yli you yva yop ynu yse yth) := fun no => yy_g124 (H4 no)
  have e32 : (8 : Int32) * nI a = 32 ↔ a = 4 := by
    rw [fw_8, show (32 : Int32) = nI 32 from rfl, nI_eq (by omega) (by omega)]; omega
  by_cases h16 : ys i &&& 16 = 0
  · refine br_t h16 (br_f (by decide) ?_)
    by_cases h4 : a = 4
    · refine br_t (e32.mpr h4) (GO ?_)
      rw [h4]; exact fw_ok4 _ _
    · have q := fw_ok_u (x := yli k) (how := ys i) h1 (by omega) h16
      exact br_f (fun z => h4 (e32.mp z)) (br_t rfl ⟨fun z => GO (q.mpr z), fun z => NO (fun w => z (q.mp w))⟩)
  · refine br_f h16 (br_f (by decide) ?_)
    by_cases h4 : a = 4
    · refine br_t (e32.mpr h4) (GO ?_)
      rw [h4]; exact fw_ok4 _ _
    · have q := fw_ok_s (x := yli k) (how := ys i) h1 (by omega) h16
      exact br_f (fun z => h4 (e32.mp z)) (br_f (by decide) ⟨fun z => GO (q.mpr (Or.inl z)), fun z => ⟨fun z2 => GO (q.mpr (Or.inr z2)), fun z2 => NO (fun w => (q.mp w).elim z z2)⟩⟩)
/-! groups -/
def fw_gb (x : Int32) (g k : Nat) : Int32 := (((x.toUInt32 >>> ((7 * nI k).toUInt32 &&& Int32.toUInt32 31)).toInt32) &&& 127) ||| (if g ≤ k + 1 then 0 else 128)
theorem fw_127 (i : Nat) : bt 127 i = decide (i < 7) := by
  by_cases h : i < 32
  · revert i; decide +kernel
  · rw [b_big (by omega), decide_eq_false (by omega)]
theorem fw_128 (i : Nat) : bt 128 i = decide (i = 7) := by
  by_cases h : i < 32
  · revert i; decide +kernel
  · rw [b_big (by omega), decide_eq_false (by omega)]
theorem fw_gb255 (x : Int32) (g k : Nat) : fw_gb x g k = fw_gb x g k &&& 255 := by
  apply b_ext
  intro i hi
  rw [b_and, b_255]
  unfold fw_gb
  rw [b_or, b_and, fw_127]
  by_cases h : i < 8
  · rw [decide_eq_true h, Bool.and_true]
  · rw [decide_eq_false h, Bool.and_false, decide_eq_false (by omega : ¬ i < 7), Bool.and_false, Bool.false_or]
    split
    · exact b_0 i
    · rw [fw_128, decide_eq_false (by omega)]
theorem xx_gw {post : SX → Prop} {g p k i : Nat} {x : Int32} (hp : p + g ≤ 64) (h1 : 1 ≤ g) (hg : g ≤ 5) (hi : i < 41)
    (H : post (xit, xln, xrd, xop, xil, cnt, xml, 1, nI i, nI (p + g), lim, bby, bl, fw_emS (fw_gb x g) sm g, st, nI (k + 1), dep, beg, oc, plc, rch, xk, xf, xs, wh, aa, bb, par, ri, rb, rv, oi, os, ot, inp, lst, fw_em8 (fw_gb x g) p mad g, upd vr (bb i &&& 7).toNatClampNeg x, sav)) :
    ∀ d q, q + d = g → ∀ n, d < n → (wX_putGroups_53 post x (nI g) n (nI q) xit xln xrd xop xil cnt xml 1 (nI i) (nI (p + q)) lim bby bl (fw_emS (fw_gb x g) sm q) st (nI k) dep beg oc plc rch xk xf xs wh aa bb par ri rb rv oi os ot inp lst (fw_em8 (fw_gb x g) p mad q) vr sav)
  | 0, q, h, n, hn => by
    obtain ⟨n, rfl⟩ : ∃ q, n = q + 1 := ⟨n - 1, by omega⟩
    obtain rfl : q = g := by omega
    refine br_t (Int32.le_refl _) (And.intro (vp_in_nI hi (by decide)) ?_)
    rw [nI_clamp (by omega)]
    exact xx_keep_w (fw_in7 _) H
  | d + 1, q, h, n, hn => by
    obtain ⟨n, rfl⟩ : ∃ q, n = q + 1 := ⟨n - 1, by omega⟩
    have ih := xx_gw hp h1 hg hi H d (q + 1) (by omega) n (by omega)
    refine br_f (nI_ge (by omega) (by omega)) ?_
    rw [fw_m1 h1, nI_leI (by omega) (by omega)]
    refine ⟨fun z => xx_emit (by omega) (nm_r (nI_1 q) ?_), fun z => xx_emit (by omega) (nm_r (nI_1 q) ?_)⟩
    · have e : (((x.toUInt32 >>> ((7 * nI q).toUInt32 &&& Int32.toUInt32 31)).toInt32) &&& 127) ||| 0 = fw_gb x g q := by rw [fw_gb, if_pos (by omega)]
      rw [e]; exact ih
    · have e : (((x.toUInt32 >>> ((7 * nI q).toUInt32 &&& Int32.toUInt32 31)).toInt32) &&& 127) ||| 128 = fw_gb x g q := by rw [fw_gb, if_neg (by omega)]
      rw [e]; exact ih
theorem xx_put_w {post : SX → Prop} {p k L i : Nat} (hL : L ≤ 64) (hp : p ≤ L) (hk : k < 40) (hi : i < 41)
    (H3 : L < p + fw_gN (lst k) → post (xit, xln, xrd, xop, xil, cnt, xml, 1, nI i, nI p, nI L, bby, bl, sm, st, nI k, dep, beg, 3, nI i, beg, xk, xf, xs, wh, aa, bb, par, ri, rb, rv, oi, os, ot, inp, lst, mad, vr, sav))
    (H0 : p + fw_gN (lst k) ≤ L → post (xit, xln, xrd, xop, xil, cnt, xml, 1, nI i, nI (p + fw_gN (lst k)), nI L, bby, bl, fw_emS (fw_gb (lst k) (fw_gN (lst k))) sm (fw_gN (lst k)), st, nI (k + 1), dep, beg, oc, plc, rch, xk, xf, xs, wh, aa, bb, par, ri, rb, rv, oi, os, ot, inp, lst, fw_em8 (fw_gb (lst k) (fw_gN (lst k))) p mad (fw_gN (lst k)), upd vr (bb i &&& 7).toNatClampNeg (lst k), sav)) :
    (wpX_putGroups post (xit, xln, xrd, xop, xil, cnt, xml, 1, nI i, nI p, nI L, bby, bl, sm, st, nI k, dep, beg, oc, plc, rch, xk, xf, xs, wh, aa, bb, par, ri, rb, rv, oi, os, ot, inp, lst, mad, vr, sav)) := by
  obtain ⟨h1, h5⟩ := fw_gN_le (lst k)
  refine And.intro (vp_in_nI hk (by decide)) (nm_r (e' := lst k) (by rw [nI_clamp (by omega)]) (nm_r (fw_u7 (lst k)) ⟨5, xx_grp 4 _ 1 (by omega) (fw_r7 _) (fun n => br_t rfl ?_) 5 (by omega)⟩))
  show ((nI p + nI (fw_gN (lst k))) ≤ nI L → _) ∧ (¬ (nI p + nI (fw_gN (lst k))) ≤ nI L → _)
  rw [nI_add]
  exact pk_le (p + fw_gN (lst k)) L (fun h => ⟨fw_gN (lst k) + 1, xx_gw (by omega) h1 h5 hi (H0 h) (fw_gN (lst k)) 0 (by omega) _ (by omega)⟩) (fun h => xx_end (by decide) (H3 h))
theorem yy_gw {post : Int32 → SY → Prop} {g p : Nat} {x : Int32} (hp : p + g ≤ 64) (hg : g ≤ 5)
    (H : post 0 (yit, ysz, yfd, yls, ymd, ysa, ytk, ydp, nI (p + g), ybt, yst, yus, ynx, yra, yrd, yks, yas, ybs, yk, yf, ys, yin, yli, fw_emY (fw_gb x g) p you g, yva, yop, ynu, yse, yth)) :
    ∀ d q, q + d = g → ∀ n, d < n → (wY_give_307 post x (nI g) yit ysz yfd yls ymd ysa ytk ydp ybt yst yus ynx yra yrd n (nI q) (nI (p + q)) yks yas ybs yk yf ys yin yli (fw_emY (fw_gb x g) p you q) yva yop ynu yse yth)
  | 0, q, h, n, hn => by
    obtain ⟨n, rfl⟩ : ∃ q, n = q + 1 := ⟨n - 1, by omega⟩
    obtain rfl : q = g := by omega
    exact br_t (Int32.le_refl _) H
  | d + 1, q, h, n, hn => by
    obtain ⟨n, rfl⟩ : ∃ q, n = q + 1 := ⟨n - 1, by omega⟩
    have ih := yy_gw hp hg H d (q + 1) (by omega) n (by omega)
    refine br_f (nI_ge (by omega) (by omega)) (nm_r (nI_1 (p + q)) ?_)
    rw [nI_1 q, nI_leI (by omega) (by omega)]
    refine ⟨fun z => And.intro (vp_in_nI (by omega) (by decide)) (nm_r (e' := fw_emY (fw_gb x g) p you (q + 1)) ?_ (nm_e ih)), fun z => And.intro (vp_in_nI (by omega) (by decide)) (nm_r (e' := fw_emY (fw_gb x g) p you (q + 1)) ?_ (nm_e ih))⟩
    · rw [nI_clamp (by omega), fw_emY, fw_gb, if_pos z]
    · rw [nI_clamp (by omega), fw_emY, fw_gb, if_neg z]
theorem yy_put_w {post : Int32 → SY → Prop} {p c k i B : Nat} {s : List (Nat × Nat)} {t : List Nat} (M : fw_MD wr yrd yfd B) (S : fw_SK yk B yop ynu sav s t) (hl : s.length ≤ 4) (hp : p ≤ fw_LM yk B s) (hi : i < 40) (hk : k < c) (hc : c ≤ 40)
    (H3 : fw_LM yk B s < p + fw_gN (yli k) → post 3 (yit, ysz, yfd, nI c, ymd, ysa, ytk, nI s.length, nI p, ybt, yst, nI k, ynx, yra, yrd, yks, yas, ybs, yk, yf, ys, yin, yli, you, yva, yop, ynu, yse, yth))
    (H0 : p + fw_gN (yli k) ≤ fw_LM yk B s → post 0 (yit, ysz, yfd, nI c, ymd, ysa, ytk, nI s.length, nI (p + fw_gN (yli k)), ybt, yst, nI (k + 1), ynx, yra, yrd, yks, yas, ybs, yk, yf, ys, yin, yli, fw_emY (fw_gb (yli k) (fw_gN (yli k))) p you (fw_gN (yli k)), upd yva (ys i &&& 7).toNatClampNeg (yli k), yop, ynu, yse, yth)) :
    (wpY_give post (yit, ysz, yfd, nI c, ymd, ysa, ytk, nI s.length, nI p, ybt, yst, nI k, ynx, yra, yrd, yks, yas, ybs, yk, yf, ys, yin, yli, you, yva, yop, ynu, yse, yth) 1 (nI i) (ys i &&& 7)) := by
  have hB := fw_LM_le S
  have hB' := M.1
  obtain ⟨h1, h5⟩ := fw_gN_le (yli k)
  refine br_f (by rw [nI_eq (by omega) (by omega)]; omega) (And.intro (vp_in_nI (by omega) (by decide)) (nm_r (e' := yli k) (by rw [nI_clamp (by omega)]) (And.intro (vp_in_nI hi (by decide)) (nm_e (br_f (by decide) (br_f (by decide) (br_t rfl ?_)))))))
  refine yy_g125 (fun n => br_t rfl (br_f (by decide) (br_t rfl (yy_room M S hl hp (by omega) (fun h => br_f (by decide) ?_) (fun h => br_t rfl (H3 h))))))
  refine nm_r (nI_1 k) (And.intro (fw_in7 _) (nm_e (br_f (by decide) (br_t rfl ⟨fw_gN (yli k) + 1, ?_⟩))))
  exact yy_gw (by omega) h5 (H0 h) (fw_gN (yli k)) 0 (by omega) _ (by omega)
end
section
/-! groups read, fixed bytes, sums, alignment -/
variable {xit xln xrd xop xil cnt xml wr pc pos lim bby bl sm st tkn dep beg oc plc rch : Int32} {xk xf xs wh aa bb par ri rb rv oi os ot inp lst mad vr sav : Nat → Int32} {yit ysz yfd yls ymd ysa ytk ydp yps ybt yst yus ynx yra yrd : Int32} {yks yas ybs yk yf ys yin yli you yva yop ynu yse yth : Nat → Int32}
theorem fw_le127 (x : Int32) : x ≤ 127 ↔ ¬ 128 ≤ x := by
  rw [Int32.le_iff_toInt_le, Int32.le_iff_toInt_le, show (127 : Int32).toInt = 127 from by decide, show (128 : Int32).toInt = 128 from by decide]
  omega
theorem fw_15 {x : Int32} (h : ¬ 15 < x) : x ≤ 127 := by
  rw [Int32.lt_iff_toInt_lt, show (15 : Int32).toInt = 15 from by decide] at h
  rw [Int32.le_iff_toInt_le, show (127 : Int32).toInt = 127 from by decide]
  omega
theorem fw_30 : ¬ (3 : Int32) = 0 := by decide
theorem fw_60 : ¬ (6 : Int32) = 0 := by decide
abbrev fw_bad (f : Nat → Int32) (p j : Nat) : Prop := (j = 4 ∧ 15 < f p) ∨ (0 < j ∧ f p = 0)
def fw_gx (f : Nat → Int32) (p : Nat) (x : Int32) (j : Nat) : Int32 := x ||| ((f p &&& 127) <<< ((7 * nI j) &&& 31))
/-- the end of groups: how, where, what -/
def fw_gg (f : Nat → Int32) (L : Nat) : Nat → Nat → Int32 → Nat → Int32 × Nat × Int32
  | 0, p, x, _ => (6, p, x)
  | d + 1, p, x, j => if p = L then (3, p, x) else if fw_bad f p j then (6, p + 1, x) else if f p ≤ 127 then (0, p + 1, fw_gx f p x j) else fw_gg f L d (p + 1) (fw_gx f p x j) (j + 1)
theorem xx_gg1 {post : SX → Prop} {c i L j p n : Nat} {x : Int32} (hin : ∀ j, yin j = inp j &&& 255) (hL : L ≤ 64) (hp : p ≤ L) (hi : i < 41) (hc : c < 40) (hj : j ≤ 4)
    (h3 : p = L → post (xit, xln, xrd, xop, xil, nI c, xml, 0, nI i, nI p, nI L, bby, bl, fw_sum yin p, st, tkn, dep, beg, 3, nI i, beg, xk, xf, xs, wh, aa, bb, par, ri, rb, rv, oi, os, ot, inp, lst, mad, vr, sav))
    (h6 : ¬ p = L → fw_bad yin p j → post (xit, xln, xrd, xop, xil, nI c, xml, 0, nI i, nI (p + 1), nI L, bby, bl, fw_sum yin (p + 1), st, tkn, dep, beg, 6, nI i, beg, xk, xf, xs, wh, aa, bb, par, ri, rb, rv, oi, os, ot, inp, lst, mad, vr, sav))
    (h0 : ¬ p = L → ¬ fw_bad yin p j → yin p ≤ 127 → post (xit, xln, xrd, xop, xil, nI (c + 1), xml, 0, nI i, nI (p + 1), nI L, bby, bl, fw_sum yin (p + 1), st, tkn, dep, beg, oc, plc, rch, xk, xf, xs, wh, aa, bb, par, ri, rb, rv, oi, os, ot, inp, upd lst c (fw_gx yin p x j), mad, upd vr (bb i &&& 7).toNatClampNeg (fw_gx yin p x j), sav))
    (hr : ¬ p = L → ¬ fw_bad yin p j → ¬ yin p ≤ 127 → (wX_getGroups_6 post (n + 1) (fw_gx yin p x j) (nI (j + 1)) 1 xit xln xrd xop xil (nI c) xml 0 (nI i) (nI (p + 1)) (nI L) bby bl (fw_sum yin (p + 1)) st tkn dep beg oc plc rch xk xf xs wh aa bb par ri rb rv oi os ot inp lst mad vr sav)) :
    (wX_getGroups_6 post (n + 1 + 1) x (nI j) 1 xit xln xrd xop xil (nI c) xml 0 (nI i) (nI p) (nI L) bby bl (fw_sum yin p) st tkn dep beg oc plc rch xk xf xs wh aa bb par ri rb rv oi os ot inp lst mad vr sav) := by
  refine br_f (by decide) ?_
  rw [nI_eq (by omega) (by omega)]
  refine ⟨fun z => xx_end (by decide) (h3 z), fun z => xx_byte (by omega) ?_⟩
  have e : fw_sum yin p + (inp p &&& 255) = fw_sum yin (p + 1) := by rw [← hin]; rfl
  rw [e, ← hin]
  have BAD : fw_bad yin p j → (wX_getGroups_54 post (wX_getGroups_6 post (n + 1)) x (nI j) (yin p) xit xln xrd xop xil (nI c) xml 0 (nI i) (nI (p + 1)) (nI L) bby bl (fw_sum yin (p + 1)) st tkn dep beg oc plc rch xk xf xs wh aa bb par ri rb rv oi os ot inp lst mad vr sav) := fun b => br_f (by decide) (xx_end (by decide) (h6 z b))
  have GOOD : ¬ fw_bad yin p j → (wX_getGroups_58 post (wX_getGroups_6 post (n + 1)) x (nI j) (yin p) xit xln xrd xop xil (nI c) xml 0 (nI i) (nI (p + 1)) (nI L) bby bl (fw_sum yin (p + 1)) st tkn dep beg oc plc rch xk xf xs wh aa bb par ri rb rv oi os ot inp lst mad vr sav) := by
    intro g
    refine br_t rfl (nm_r (nI_1 j) (nm_r (e' := fw_gx yin p x j) rfl ⟨fun q => br_t rfl (And.intro (vp_in_nI hi (by decide)) ?_), fun q => hr z g q⟩))
    rw [nI_clamp (by omega)]
    exact xx_keep_r (fw_in7 _) hc (h0 z g q)
  have R45 : ¬ (j = 4 ∧ 15 < yin p) → (wX_getGroups_45 post (wX_getGroups_6 post (n + 1)) x (nI j) (yin p) xit xln xrd xop xil (nI c) xml 0 (nI i) (nI (p + 1)) (nI L) bby bl (fw_sum yin (p + 1)) st tkn dep beg oc plc rch xk xf xs wh aa bb par ri rb rv oi os ot inp lst mad vr sav) := by
    intro n4
    refine pk_le j 0 (fun q => GOOD ?_) (fun q => ⟨fun y0 => BAD (Or.inr ⟨q, y0⟩), fun y0 => GOOD ?_⟩)
    · intro b
      rcases b with b | b
      · exact n4 b
      · omega
    · intro b
      rcases b with b | b
      · exact n4 b
      · exact y0 b.2
  refine pk_eq j 4 (fun q => ⟨fun y => BAD (Or.inl ⟨q, y⟩), fun y => R45 (fun w => y w.2)⟩) (fun q => R45 (fun w => q w.1))
theorem yy_gg1 {post : Int32 → SY → Prop} {c B j p n : Nat} {x w : Int32} {s : List (Nat × Nat)} {t : List Nat} (M : fw_MD wr yrd yfd B) (S : fw_SK yk B yop ynu sav s t) (hl : s.length ≤ 4) (hp : p ≤ fw_LM yk B s) (hw : vp_in w 8) (hc : c < 40) (hj : j ≤ 4)
    (h3 : p = fw_LM yk B s → post 3 (yit, ysz, yfd, nI c, ymd, ysa, ytk, nI s.length, nI p, ybt, yst, yus, ynx, yra, yrd, yks, yas, ybs, yk, yf, ys, yin, yli, you, yva, yop, ynu, yse, yth))
    (h6 : ¬ p = fw_LM yk B s → fw_bad yin p j → post 6 (yit, ysz, yfd, nI c, ymd, ysa, ytk, nI s.length, nI (p + 1), ybt, yst, yus, ynx, yra, yrd, yks, yas, ybs, yk, yf, ys, yin, yli, you, yva, yop, ynu, yse, yth))
    (h0 : ¬ p = fw_LM yk B s → ¬ fw_bad yin p j → yin p ≤ 127 → post 0 (yit, ysz, yfd, nI (c + 1), ymd, ysa, ytk, nI s.length, nI (p + 1), ybt, yst, yus, ynx, yra, yrd, yks, yas, ybs, yk, yf, ys, yin, upd yli c (fw_gx yin p x j), you, upd yva w.toNatClampNeg (fw_gx yin p x j), yop, ynu, yse, yth))
    (hr : ¬ p = fw_LM yk B s → ¬ fw_bad yin p j → ¬ yin p ≤ 127 → (wY_takeGroups_4 post w yit ysz yfd (nI c) ymd ysa ytk (nI s.length) ybt yst yus ynx yra yrd yks yas ybs yk yf ys yin yli you yva yop ynu yse yth n (fw_gx yin p x j) (nI (j + 1)) (nI (p + 1)))) :
    (wY_takeGroups_4 post w yit ysz yfd (nI c) ymd ysa ytk (nI s.length) ybt yst yus ynx yra yrd yks yas ybs yk yf ys yin yli you yva yop ynu yse yth (n + 1) x (nI j) (nI p)) := by
  have hB := fw_LM_le S
  have hB' := M.1
  refine br_f (nI_ge (b := 5) (by omega) (by decide)) (yy_room (q := 1) M S hl hp (by decide) (fun h => br_f (by decide) ?_) (fun h => br_t rfl (h3 (by omega))))
  have z : ¬ p = fw_LM yk B s := by omega
  refine nm_r (nI_1 p) (And.intro (vp_in_nI (by omega) (by decide)) (nm_r (e' := yin p) (by rw [nI_clamp (by omega)]) (nm_r (e' := fw_gx yin p x j) rfl ?_)))
  have GOOD : ¬ fw_bad yin p j → (wY_takeGroups_74 post (wY_takeGroups_4 post w yit ysz yfd (nI c) ymd ysa ytk (nI s.length) ybt yst yus ynx yra yrd yks yas ybs yk yf ys yin yli you yva yop ynu yse yth n) w (fw_gx yin p x j) (nI j) (yin p) yit ysz yfd (nI c) ymd ysa ytk (nI s.length) (nI (p + 1)) ybt yst yus ynx yra yrd yks yas ybs yk yf ys yin yli you yva yop ynu yse yth) := by
    intro g
    refine ⟨fun q => nm_r (nI_1 j) (hr z g (by rw [fw_le127]; exact fun w => w q)), fun q => yy_keep hw hc (h0 z g (by rw [fw_le127]; exact q))⟩
  have R62 : ¬ (j = 4 ∧ 15 < yin p) → (wY_takeGroups_62 post (wY_takeGroups_4 post w yit ysz yfd (nI c) ymd ysa ytk (nI s.length) ybt yst yus ynx yra yrd yks yas ybs yk yf ys yin yli you yva yop ynu yse yth n) w (fw_gx yin p x j) (nI j) (yin p) yit ysz yfd (nI c) ymd ysa ytk (nI s.length) (nI (p + 1)) ybt yst yus ynx yra yrd yks yas ybs yk yf ys yin yli you yva yop ynu yse yth) := by
    intro n4
    refine pk_le j 0 (fun q => GOOD ?_) (fun q => ⟨fun y0 => h6 z (Or.inr ⟨q, y0⟩), fun y0 => GOOD ?_⟩)
    · intro b
      rcases b with b | b
      · exact n4 b
      · omega
    · intro b
      rcases b with b | b
      · exact n4 b
      · exact y0 b.2
  refine pk_eq j 4 (fun q => ⟨fun y => h6 z (Or.inl ⟨q, y⟩), fun y => R62 (fun w => y w.2)⟩) (fun q => R62 (fun w => q w.1))
theorem fw_gg_le {f : Nat → Int32} {L : Nat} : ∀ d p x j, p ≤ L → (fw_gg f L d p x j).2.1 ≤ L
  | 0, p, x, j, h => h
  | d + 1, p, x, j, h => by
    rw [fw_gg]
    split
    · exact h
    · split
      · show p + 1 ≤ L; omega
      · split
        · show p + 1 ≤ L; omega
        · exact fw_gg_le d _ _ _ (by omega)
theorem fw_gg_ge {f : Nat → Int32} {L : Nat} : ∀ d p x j, p ≤ (fw_gg f L d p x j).2.1
  | 0, p, x, j => Nat.le_refl _
  | d + 1, p, x, j => by
    rw [fw_gg]
    split
    · exact Nat.le_refl _
    · split
      · exact Nat.le_succ _
      · split
        · exact Nat.le_succ _
        · exact Nat.le_trans (Nat.le_succ p) (fw_gg_ge d _ _ _)
theorem xx_gg {post : SX → Prop} {c i L : Nat} (hin : ∀ j, yin j = inp j &&& 255) (hL : L ≤ 64) (hi : i < 41) (hc : c < 40) :
    ∀ d j p x, j + d = 4 → p ≤ L →
    ((fw_gg yin L (d + 1) p x j).1 = 0 → post (xit, xln, xrd, xop, xil, nI (c + 1), xml, 0, nI i, nI (fw_gg yin L (d + 1) p x j).2.1, nI L, bby, bl, fw_sum yin (fw_gg yin L (d + 1) p x j).2.1, st, tkn, dep, beg, oc, plc, rch, xk, xf, xs, wh, aa, bb, par, ri, rb, rv, oi, os, ot, inp, upd lst c (fw_gg yin L (d + 1) p x j).2.2, mad, upd vr (bb i &&& 7).toNatClampNeg (fw_gg yin L (d + 1) p x j).2.2, sav)) →
    (¬ (fw_gg yin L (d + 1) p x j).1 = 0 → post (xit, xln, xrd, xop, xil, nI c, xml, 0, nI i, nI (fw_gg yin L (d + 1) p x j).2.1, nI L, bby, bl, fw_sum yin (fw_gg yin L (d + 1) p x j).2.1, st, tkn, dep, beg, (fw_gg yin L (d + 1) p x j).1, nI i, beg, xk, xf, xs, wh, aa, bb, par, ri, rb, rv, oi, os, ot, inp, lst, mad, vr, sav)) →
    (wX_getGroups_6 post (d + 1 + 1) x (nI j) 1 xit xln xrd xop xil (nI c) xml 0 (nI i) (nI p) (nI L) bby bl (fw_sum yin p) st tkn dep beg oc plc rch xk xf xs wh aa bb par ri rb rv oi os ot inp lst mad vr sav) := by
  intro d
  induction d with
  | zero =>
    intro j p x hj hp H0 H1
    obtain rfl : j = 4 := by omega
    refine xx_gg1 hin hL hp hi hc (by omega) (fun z => ?_) (fun z b => ?_) (fun z b y => ?_) (fun z b y => ?_)
    · rw [fw_gg, if_pos z] at H1; exact H1 fw_30
    · rw [fw_gg, if_neg z, if_pos b] at H1; exact H1 fw_60
    · rw [fw_gg, if_neg z, if_neg b, if_pos y] at H0; exact H0 rfl
    · exact absurd (fw_15 (fun q => b (Or.inl ⟨rfl, q⟩))) y
  | succ d ih =>
    intro j p x hj hp H0 H1
    refine xx_gg1 hin hL hp hi hc (by omega) (fun z => ?_) (fun z b => ?_) (fun z b y => ?_) (fun z b y => ?_)
    · rw [fw_gg, if_pos z] at H1; exact H1 fw_30
    · rw [fw_gg, if_neg z, if_pos b] at H1; exact H1 fw_60
    · rw [fw_gg, if_neg z, if_neg b, if_pos y] at H0; exact H0 rfl
    · rw [fw_gg, if_neg z, if_neg b, if_neg y] at H0 H1
      exact ih (j + 1) (p + 1) _ (by omega) (by omega) H0 H1
theorem yy_gg {post : Int32 → SY → Prop} {c B : Nat} {w : Int32} {s : List (Nat × Nat)} {t : List Nat} (M : fw_MD wr yrd yfd B) (S : fw_SK yk B yop ynu sav s t) (hl : s.length ≤ 4) (hw : vp_in w 8) (hc : c < 40) :
    ∀ d j p x, j + d = 4 → p ≤ fw_LM yk B s →
    ((fw_gg yin (fw_LM yk B s) (d + 1) p x j).1 = 0 → post 0 (yit, ysz, yfd, nI (c + 1), ymd, ysa, ytk, nI s.length, nI (fw_gg yin (fw_LM yk B s) (d + 1) p x j).2.1, ybt, yst, yus, ynx, yra, yrd, yks, yas, ybs, yk, yf, ys, yin, upd yli c (fw_gg yin (fw_LM yk B s) (d + 1) p x j).2.2, you, upd yva w.toNatClampNeg (fw_gg yin (fw_LM yk B s) (d + 1) p x j).2.2, yop, ynu, yse, yth)) →
    (¬ (fw_gg yin (fw_LM yk B s) (d + 1) p x j).1 = 0 → post (fw_gg yin (fw_LM yk B s) (d + 1) p x j).1 (yit, ysz, yfd, nI c, ymd, ysa, ytk, nI s.length, nI (fw_gg yin (fw_LM yk B s) (d + 1) p x j).2.1, ybt, yst, yus, ynx, yra, yrd, yks, yas, ybs, yk, yf, ys, yin, yli, you, yva, yop, ynu, yse, yth)) →
    (wY_takeGroups_4 post w yit ysz yfd (nI c) ymd ysa ytk (nI s.length) ybt yst yus ynx yra yrd yks yas ybs yk yf ys yin yli you yva yop ynu yse yth (d + 1) x (nI j) (nI p)) := by
  intro d
  induction d with
  | zero =>
    intro j p x hj hp H0 H1
    obtain rfl : j = 4 := by omega
    refine yy_gg1 M S hl hp hw hc (by omega) (fun z => ?_) (fun z b => ?_) (fun z b y => ?_) (fun z b y => ?_)
    · rw [fw_gg, if_pos z] at H1; exact H1 fw_30
    · rw [fw_gg, if_neg z, if_pos b] at H1; exact H1 fw_60
    · rw [fw_gg, if_neg z, if_neg b, if_pos y] at H0; exact H0 rfl
    · exact absurd (fw_15 (fun q => b (Or.inl ⟨rfl, q⟩))) y
  | succ d ih =>
    intro j p x hj hp H0 H1
    refine yy_gg1 M S hl hp hw hc (by omega) (fun z => ?_) (fun z b => ?_) (fun z b y => ?_) (fun z b y => ?_)
    · rw [fw_gg, if_pos z] at H1; exact H1 fw_30
    · rw [fw_gg, if_neg z, if_pos b] at H1; exact H1 fw_60
    · rw [fw_gg, if_neg z, if_neg b, if_pos y] at H0; exact H0 rfl
    · rw [fw_gg, if_neg z, if_neg b, if_neg y] at H0 H1
      exact ih (j + 1) (p + 1) _ (by omega) (by omega) H0 H1
/-! one byte that is known -/
theorem xx_fix_w {post : SX → Prop} {p : Nat} {v : Int32} (h : p < 64) (H : post (xit, xln, xrd, xop, xil, cnt, xml, 1, pc, nI (p + 1), lim, bby, bl, sm + (v &&& 255), st, tkn, dep, beg, oc, plc, rch, xk, xf, xs, wh, aa, bb, par, ri, rb, rv, oi, os, ot, inp, lst, upd mad p v.toInt8.toInt32, vr, sav)) : (wpX_fixed post (xit, xln, xrd, xop, xil, cnt, xml, 1, pc, nI p, lim, bby, bl, sm, st, tkn, dep, beg, oc, plc, rch, xk, xf, xs, wh, aa, bb, par, ri, rb, rv, oi, os, ot, inp, lst, mad, vr, sav) v) := br_f (by decide) (xx_emit h H)
theorem xx_fix_r {post : SX → Prop} {p : Nat} {v : Int32} (h : p < 64) (H0 : inp p &&& 255 = v → post (xit, xln, xrd, xop, xil, cnt, xml, 0, pc, nI (p + 1), lim, bby, bl, sm + (inp p &&& 255), st, tkn, dep, beg, oc, plc, rch, xk, xf, xs, wh, aa, bb, par, ri, rb, rv, oi, os, ot, inp, lst, mad, vr, sav)) (H1 : ¬ inp p &&& 255 = v → post (xit, xln, xrd, xop, xil, cnt, xml, 0, pc, nI (p + 1), lim, bby, bl, sm + (inp p &&& 255), st, tkn, dep, beg, 5, pc, beg, xk, xf, xs, wh, aa, bb, par, ri, rb, rv, oi, os, ot, inp, lst, mad, vr, sav)) : (wpX_fixed post (xit, xln, xrd, xop, xil, cnt, xml, 0, pc, nI p, lim, bby, bl, sm, st, tkn, dep, beg, oc, plc, rch, xk, xf, xs, wh, aa, bb, par, ri, rb, rv, oi, os, ot, inp, lst, mad, vr, sav) v) :=
  br_t rfl (xx_byte h ⟨H0, fun z => xx_end (by decide) (H1 z)⟩)
/-! the reference's sum -/
theorem yy_cks {post : Int32 → SY → Prop} {p : Nat} {a : Int32} {f : Nat → Int32} (hp : p ≤ 64) (hf : (yrd = 1 ∧ f = yin) ∨ (yrd = 0 ∧ f = you)) (H : (wpY_exact post (yit, ysz, yfd, yls, ymd, ysa, ytk, ydp, nI p, ybt, yst, yus, ynx, yra, yrd, yks, yas, ybs, yk, yf, ys, yin, yli, you, yva, yop, ynu, yse, yth) ((a + fw_sum f p) &&& 255) 5)) :
    ∀ d q, q + d = p → ∀ n, d < n → (wY_plain_83 post yit ysz yfd yls ymd ysa ytk ydp (nI p) ybt yst yus ynx yra yrd yks yas ybs yk yf ys yin yli you yva yop ynu yse yth n (a + fw_sum f q) (nI q))
  | 0, q, h, n, hn => by
    obtain ⟨n, rfl⟩ : ∃ q, n = q + 1 := ⟨n - 1, by omega⟩
    obtain rfl : q = p := by omega
    exact br_t (Int32.le_refl _) H
  | d + 1, q, h, n, hn => by
    obtain ⟨n, rfl⟩ : ∃ q, n = q + 1 := ⟨n - 1, by omega⟩
    have ih := yy_cks hp hf H d (q + 1) (by omega) n (by omega)
    have e : a + fw_sum f q + f q = a + fw_sum f (q + 1) := Int32.add_assoc ..
    refine br_f (nI_ge (by omega) (by omega)) ?_
    rcases hf with ⟨rfl, rfl⟩ | ⟨rfl, rfl⟩
    · refine br_f (by decide) (And.intro (vp_in_nI (by omega) (by decide)) ?_)
      rw [nI_clamp (by omega)]
      exact nm_r e (nm_r (nI_1 q) ih)
    · refine br_t rfl (And.intro (vp_in_nI (by omega) (by decide)) ?_)
      rw [nI_clamp (by omega)]
      exact nm_r e (nm_r (nI_1 q) ih)
/-! alignment -/
def fw_al (a p : Nat) : Nat := (a - p % a) % a
theorem fw_al_eq {a p : Nat} (h2 : 2 ≤ a) (h8 : a ≤ 8) (hp : p ≤ 64) : (nI a - (nI p - nI p / nI a * nI a)) - (nI a - (nI p - nI p / nI a * nI a)) / nI a * nI a = nI (fw_al a p) := by
  have hm : p % a < a := Nat.mod_lt _ (by omega)
  rw [pk_rem (by omega) (by omega) (by omega), pk_sub (by omega), pk_rem (by omega) (by omega) (by omega)]
  rfl
theorem fw_al_le {a p : Nat} (h2 : 2 ≤ a) : fw_al a p < a := Nat.mod_lt _ (by omega)
theorem xx_al_w {post : SX → Prop} {q p : Nat} (hp : p + q ≤ 64) (H : post (xit, xln, xrd, xop, xil, cnt, xml, 1, pc, nI (p + q), lim, bby, bl, fw_emS (fun _ => 0) sm q, st, tkn, dep, beg, (-1), plc, rch, xk, xf, xs, wh, aa, bb, par, ri, rb, rv, oi, os, ot, inp, lst, fw_em8 (fun _ => 0) p mad q, vr, sav)) :
    ∀ d e, e + d = q → ∀ n, d < n → (wX_align_32 post (nI q) n (nI e) xit xln xrd xop xil cnt xml 1 pc (nI (p + e)) lim bby bl (fw_emS (fun _ => 0) sm e) st tkn dep beg (-1) plc rch xk xf xs wh aa bb par ri rb rv oi os ot inp lst (fw_em8 (fun _ => 0) p mad e) vr sav)
  | 0, e, h, n, hn => by
    obtain ⟨n, rfl⟩ : ∃ q, n = q + 1 := ⟨n - 1, by omega⟩
    obtain rfl : e = q := by omega
    exact br_t (Int32.le_refl _) H
  | d + 1, e, h, n, hn => by
    obtain ⟨n, rfl⟩ : ∃ q, n = q + 1 := ⟨n - 1, by omega⟩
    have ih := xx_al_w hp H d (e + 1) (by omega) n (by omega)
    exact br_f (nI_ge (by omega) (by omega)) (br_f (by decide) (br_f (by decide) (xx_emit (by omega) (br_t rfl (nm_r (nI_1 e) ih)))))
theorem yy_al_w {post : Int32 → SY → Prop} {q p : Nat} (hp : p + q ≤ 64) (H : post 0 (yit, ysz, yfd, yls, ymd, ysa, ytk, ydp, nI (p + q), ybt, yst, yus, ynx, yra, 0, yks, yas, ybs, yk, yf, ys, yin, yli, fw_emY (fun _ => 0) p you q, yva, yop, ynu, yse, yth)) :
    ∀ d e, e + d = q → ∀ n, d < n → (wY_plain_147 post (nI q) n (nI e) yit ysz yfd yls ymd ysa ytk ydp (nI (p + e)) ybt yst yus ynx yra 0 yks yas ybs yk yf ys yin yli (fw_emY (fun _ => 0) p you e) yva yop ynu yse yth)
  | 0, e, h, n, hn => by
    obtain ⟨n, rfl⟩ : ∃ q, n = q + 1 := ⟨n - 1, by omega⟩
    obtain rfl : e = q := by omega
    exact br_t (Int32.le_refl _) H
  | d + 1, e, h, n, hn => by
    obtain ⟨n, rfl⟩ : ∃ q, n = q + 1 := ⟨n - 1, by omega⟩
    have ih := yy_al_w hp H d (e + 1) (by omega) n (by omega)
    exact br_f (nI_ge (by omega) (by omega)) (yy_exact_w (by omega) (br_t rfl (nm_r (nI_1 e) ih)))
/-- both sides read the bytes of an alignment -/
theorem jj_al_r {q p : Nat} (hin : ∀ j, yin j = inp j &&& 255) (hp : p + q ≤ 64) :
    ∀ d e, e + d = q →
    ((∀ post : SX → Prop, post (xit, xln, xrd, xop, xil, cnt, xml, 0, pc, nI (p + q), lim, bby, bl, fw_sum yin (p + q), st, tkn, dep, beg, (-1), plc, rch, xk, xf, xs, wh, aa, bb, par, ri, rb, rv, oi, os, ot, inp, lst, mad, vr, sav) → ∀ n, d < n → (wX_align_32 post (nI q) n (nI e) xit xln xrd xop xil cnt xml 0 pc (nI (p + e)) lim bby bl (fw_sum yin (p + e)) st tkn dep beg (-1) plc rch xk xf xs wh aa bb par ri rb rv oi os ot inp lst mad vr sav)) ∧
     (∀ post : Int32 → SY → Prop, post 0 (yit, ysz, yfd, yls, ymd, ysa, ytk, ydp, nI (p + q), ybt, yst, yus, ynx, yra, 1, yks, yas, ybs, yk, yf, ys, yin, yli, you, yva, yop, ynu, yse, yth) → ∀ n, d < n → (wY_plain_147 post (nI q) n (nI e) yit ysz yfd yls ymd ysa ytk ydp (nI (p + e)) ybt yst yus ynx yra 1 yks yas ybs yk yf ys yin yli you yva yop ynu yse yth))) ∨
    (∃ p' sm' y', (∀ post : SX → Prop, post (xit, xln, xrd, xop, xil, cnt, xml, 0, pc, p', lim, bby, bl, sm', st, tkn, dep, beg, 6, pc, beg, xk, xf, xs, wh, aa, bb, par, ri, rb, rv, oi, os, ot, inp, lst, mad, vr, sav) → ∀ n, d < n → (wX_align_32 post (nI q) n (nI e) xit xln xrd xop xil cnt xml 0 pc (nI (p + e)) lim bby bl (fw_sum yin (p + e)) st tkn dep beg (-1) plc rch xk xf xs wh aa bb par ri rb rv oi os ot inp lst mad vr sav)) ∧
     (∀ post : Int32 → SY → Prop, post 6 (yit, ysz, yfd, yls, ymd, ysa, ytk, ydp, y', ybt, yst, yus, ynx, yra, 1, yks, yas, ybs, yk, yf, ys, yin, yli, you, yva, yop, ynu, yse, yth) → ∀ n, d < n → (wY_plain_147 post (nI q) n (nI e) yit ysz yfd yls ymd ysa ytk ydp (nI (p + e)) ybt yst yus ynx yra 1 yks yas ybs yk yf ys yin yli you yva yop ynu yse yth))) := by
  intro d
  induction d with
  | zero =>
    intro e h
    obtain rfl : e = q := by omega
    refine Or.inl ⟨fun post H n hn => ?_, fun post H n hn => ?_⟩
    · obtain ⟨n, rfl⟩ : ∃ q, n = q + 1 := ⟨n - 1, by omega⟩
      exact br_t (Int32.le_refl _) H
    · obtain ⟨n, rfl⟩ : ∃ q, n = q + 1 := ⟨n - 1, by omega⟩
      exact br_t (Int32.le_refl _) H
  | succ d ih =>
    intro e h
    have es : fw_sum yin (p + e) + (inp (p + e) &&& 255) = fw_sum yin (p + (e + 1)) := by rw [← hin]; rfl
    by_cases z : yin (p + e) = 0
    · have zi : inp (p + e) &&& 255 = 0 := by rw [← hin]; exact z
      have X1 : ∀ post : SX → Prop, ∀ n, (wX_align_32 post (nI q) n (nI (e + 1)) xit xln xrd xop xil cnt xml 0 pc (nI (p + (e + 1))) lim bby bl (fw_sum yin (p + (e + 1))) st tkn dep beg (-1) plc rch xk xf xs wh aa bb par ri rb rv oi os ot inp lst mad vr sav) → (wX_align_32 post (nI q) (n + 1) (nI e) xit xln xrd xop xil cnt xml 0 pc (nI (p + e)) lim bby bl (fw_sum yin (p + e)) st tkn dep beg (-1) plc rch xk xf xs wh aa bb par ri rb rv oi os ot inp lst mad vr sav) := by
        intro post n H
        refine br_f (nI_ge (by omega) (by omega)) (br_f (by decide) (br_t rfl (xx_byte (by omega) ?_)))
        rw [es]
        exact br_t zi (nm_r (nI_1 e) H)
      have Y1 : ∀ post : Int32 → SY → Prop, ∀ n, (wY_plain_147 post (nI q) n (nI (e + 1)) yit ysz yfd yls ymd ysa ytk ydp (nI (p + (e + 1))) ybt yst yus ynx yra 1 yks yas ybs yk yf ys yin yli you yva yop ynu yse yth) → (wY_plain_147 post (nI q) (n + 1) (nI e) yit ysz yfd yls ymd ysa ytk ydp (nI (p + e)) ybt yst yus ynx yra 1 yks yas ybs yk yf ys yin yli you yva yop ynu yse yth) := fun post n H =>
        br_f (nI_ge (by omega) (by omega)) (yy_exact_r (by omega) (fun _ => br_t rfl (nm_r (nI_1 e) H)) (fun y => absurd z y))
      rcases ih (e + 1) (by omega) with ⟨hX, hY⟩ | ⟨p', sm', y', hX, hY⟩
      · refine Or.inl ⟨fun post H n hn => ?_, fun post H n hn => ?_⟩
        · obtain ⟨n, rfl⟩ : ∃ q, n = q + 1 := ⟨n - 1, by omega⟩
          exact X1 post n (hX post H n (by omega))
        · obtain ⟨n, rfl⟩ : ∃ q, n = q + 1 := ⟨n - 1, by omega⟩
          exact Y1 post n (hY post H n (by omega))
      · refine Or.inr ⟨p', sm', y', fun post H n hn => ?_, fun post H n hn => ?_⟩
        · obtain ⟨n, rfl⟩ : ∃ q, n = q + 1 := ⟨n - 1, by omega⟩
          exact X1 post n (hX post H n (by omega))
        · obtain ⟨n, rfl⟩ : ∃ q, n = q + 1 := ⟨n - 1, by omega⟩
          exact Y1 post n (hY post H n (by omega))
    · have zi : ¬ inp (p + e) &&& 255 = 0 := by rw [← hin]; exact z
      refine Or.inr ⟨nI (p + (e + 1)), fw_sum yin (p + (e + 1)), nI (p + e), fun post H n hn => ?_, fun post H n hn => ?_⟩
      · obtain ⟨n, rfl⟩ : ∃ q, n = q + 1 + 1 := ⟨n - 2, by omega⟩
        refine br_f (nI_ge (by omega) (by omega)) (br_f (by decide) (br_t rfl (xx_byte (by omega) ?_)))
        rw [es]
        exact br_f zi (xx_end (by decide) (nm_r (nI_1 e) ⟨fun _ => H, fun _ => br_t (by decide) H⟩))
      · obtain ⟨n, rfl⟩ : ∃ q, n = q + 1 := ⟨n - 1, by omega⟩
        exact br_f (nI_ge (by omega) (by omega)) (yy_exact_r (by omega) (fun y => absurd y z) (fun _ => br_f (by decide) H))
end
section
/-! bits -/
variable {xit xln xrd xop xil cnt xml wr pc pos lim bby bl sm st tkn dep beg oc plc rch : Int32} {xk xf xs wh aa bb par ri rb rv oi os ot inp lst mad vr sav : Nat → Int32} {yit ysz yfd yls ymd ysa ytk ydp yps ybt yst yus ynx yra yrd : Int32} {yks yas ybs yk yf ys yin yli you yva yop ynu yse yth : Nat → Int32}
theorem fw_nor (a b : Nat) : nI a ||| nI b = nI (a ||| b) := by
  apply Int32.toBitVec_inj.mp
  apply BitVec.eq_of_toNat_eq
  show (BitVec.ofNat 32 a ||| BitVec.ofNat 32 b).toNat = (BitVec.ofNat 32 (a ||| b)).toNat
  rw [BitVec.toNat_or, BitVec.toNat_ofNat, BitVec.toNat_ofNat, BitVec.toNat_ofNat]
  exact (Nat.or_mod_two_pow).symm
theorem fw_ora {a b k : Nat} (h : b < 2 ^ k) : a * 2 ^ k ||| b = a * 2 ^ k + b := by
  rw [Nat.mul_comm, ← Nat.two_pow_add_eq_or_of_lt h a]
theorem fw_chop (B e m : Nat) : (B / 2 ^ e) % 2 ^ (m + 1) = ((B / 2 ^ (e + 1)) % 2 ^ m) * 2 + (B / 2 ^ e) % 2 := by
  rw [Nat.pow_succ 2 e, ← Nat.div_div_eq_div_mul, Nat.pow_succ 2 m, Nat.mul_comm (2 ^ m) 2, Nat.mod_mul]
  omega
theorem fw_mask : ∀ m, m < 9 → (((1 : Int32) <<< (nI m &&& 31)) - 1).toBitVec.toNat = 2 ^ m - 1 := by decide +kernel
theorem fw_p2 : ∀ m, m ≤ 16 → 2 ^ m ≤ 65536 := fun m h => Nat.pow_le_pow_right (n := 2) (by omega) h
theorem fw_sh {n k : Nat} (hk : k < 32) (h : n * 2 ^ k < 2 ^ 32) : nI n <<< (nI k &&& 31) = nI (n * 2 ^ k) := pk_shlN _ k (s_l k hk) h
theorem fw_sr {n k : Nat} (hn : n < 2 ^ 31) (hk : k < 32) : nI n >>> (nI k &&& 31) = nI (n / 2 ^ k) := pk_shrN hn _ k (s_l k hk)
theorem fw_an {n m : Nat} (hn : n < 2 ^ 31) (hm : m < 9) : nI n &&& (((1 : Int32) <<< (nI m &&& 31)) - 1) = nI (n % 2 ^ m) := pk_andN (by omega) m (fw_mask m hm)
theorem fw_a1 {n : Nat} (hn : n < 2 ^ 31) : nI n &&& 1 = nI (n % 2) := pk_andN (by omega) 1 (by decide)
def fw_p1 (p b : Nat) : Nat := if b = 0 then p + 1 else p
def fw_b1 (b : Nat) : Nat := if b = 0 then 8 else b
theorem fw_p1_0 (p : Nat) : fw_p1 p 0 = p + 1 := rfl
theorem fw_b1_0 : fw_b1 0 = 8 := rfl
theorem fw_p1_s {p b : Nat} (h : 0 < b) : fw_p1 p b = p := if_neg (by omega)
theorem fw_b1_s {b : Nat} (h : 0 < b) : fw_b1 b = b := if_neg (by omega)
def fw_more (a b : Nat) : Nat := if a ≤ b then 0 else (a - b + 7) / 8
/-- a byte as a natural -/
theorem fw_byte (x : Int32) : ∃ w : Nat, w < 256 ∧ x &&& 255 = nI w := pk_andE x 8 (by decide)
/-! reading: the reference, bit by bit -/
theorem yy_204 {post : Int32 → SY → Prop} {a q p b y T n : Nat} {w : Int32} (hp0 : 0 < p) (hp : p ≤ 64) (hb0 : 0 < b) (hb : b ≤ 8) (hy : y < 65536) (hT : T < 256) (eT : yin (p - 1) = nI T)
    (H : (wY_take_174 post w (nI a) yit ysz yfd yls ymd ysa ytk ydp yst yus ynx yra yrd yks yas ybs yk yf ys yin yli you yva yop ynu yse yth n (nI (y * 2 + T / 2 ^ (b - 1) % 2)) (nI (q + 1)) (nI p) (nI (b - 1)))) :
    (wY_take_204 post (wY_take_174 post w (nI a) yit ysz yfd yls ymd ysa ytk ydp yst yus ynx yra yrd yks yas ybs yk yf ys yin yli you yva yop ynu yse yth n) w (nI a) (nI y) (nI q) yit ysz yfd yls ymd ysa ytk ydp (nI p) (nI b) yst yus ynx yra yrd yks yas ybs yk yf ys yin yli you yva yop ynu yse yth) := by
  have hd : T / 2 ^ (b - 1) ≤ T := Nat.div_le_self _ _
  refine nm_r (fw_m1 hb0) (And.intro (by rw [fw_m1 hp0]; exact vp_in_nI (by omega) (by decide)) (nm_r (e' := nI (y * 2 + T / 2 ^ (b - 1) % 2)) ?_ (nm_r (nI_1 q) H)))
  rw [fw_m1 hp0, nI_clamp (by omega), eT, fw_sr (by omega) (by omega), fw_a1 (by omega), show ((1 : Int32) &&& 31) = nI 1 &&& 31 from rfl, fw_sh (by omega) (by omega), fw_nor, fw_ora (by omega)]
theorem yy_bit {post : Int32 → SY → Prop} {a q p b y T n : Nat} {w : Int32} (hp : fw_p1 p b ≤ 64) (hbp : 0 < b → 0 < p) (hb : b ≤ 8) (ha : a ≤ 16) (hq : q < a) (hy : y < 65536) (hT : T < 256) (eT : yin (fw_p1 p b - 1) = nI T)
    (H : (wY_take_174 post w (nI a) yit ysz yfd yls ymd ysa ytk ydp yst yus ynx yra yrd yks yas ybs yk yf ys yin yli you yva yop ynu yse yth n (nI (y * 2 + T / 2 ^ (fw_b1 b - 1) % 2)) (nI (q + 1)) (nI (fw_p1 p b)) (nI (fw_b1 b - 1)))) :
    (wY_take_174 post w (nI a) yit ysz yfd yls ymd ysa ytk ydp yst yus ynx yra yrd yks yas ybs yk yf ys yin yli you yva yop ynu yse yth (n + 1) (nI y) (nI q) (nI p) (nI b)) := by
  refine br_f (nI_ge hq (by omega)) ?_
  rcases Nat.eq_zero_or_pos b with rfl | h
  · rw [fw_p1_0] at hp eT H
    rw [fw_b1_0] at H
    exact br_t rfl (nm_r (nI_1 p) (yy_204 (b := 8) (by omega) hp (by omega) (by omega) hy hT eT H))
  · rw [fw_p1_s h] at hp eT H
    rw [fw_b1_s h] at H
    exact br_f (nI_ne0 h (by omega)) (yy_204 (hbp h) hp h hb hy hT eT H)
theorem fw_ybound {y q m T e : Nat} (hy : y < 2 ^ q) : y * 2 ^ m + T / 2 ^ e % 2 ^ m < 2 ^ (q + m) := by
  have h1 : T / 2 ^ e % 2 ^ m < 2 ^ m := Nat.mod_lt _ (Nat.two_pow_pos m)
  have h2 : (y + 1) * 2 ^ m ≤ 2 ^ q * 2 ^ m := Nat.mul_le_mul_right _ hy
  rw [Nat.pow_add]
  rw [Nat.add_mul, Nat.one_mul] at h2
  omega
theorem yy_chunk {post : Int32 → SY → Prop} {a q p b y T : Nat} {w : Int32} (hp : fw_p1 p b ≤ 64) (hbp : 0 < b → 0 < p) (hb : b ≤ 8) (ha : a ≤ 16) (hy : y < 2 ^ q) (hT : T < 256) (eT : yin (fw_p1 p b - 1) = nI T) :
    ∀ m, 1 ≤ m → m ≤ fw_b1 b → q + m ≤ a → ∀ n, (wY_take_174 post w (nI a) yit ysz yfd yls ymd ysa ytk ydp yst yus ynx yra yrd yks yas ybs yk yf ys yin yli you yva yop ynu yse yth n (nI (y * 2 ^ m + T / 2 ^ (fw_b1 b - m) % 2 ^ m)) (nI (q + m)) (nI (fw_p1 p b)) (nI (fw_b1 b - m))) →
    (wY_take_174 post w (nI a) yit ysz yfd yls ymd ysa ytk ydp yst yus ynx yra yrd yks yas ybs yk yf ys yin yli you yva yop ynu yse yth (n + m) (nI y) (nI q) (nI p) (nI b)) := by
  have hp0 : 0 < fw_p1 p b := by
    rcases Nat.eq_zero_or_pos b with rfl | h
    · rw [fw_p1_0]; omega
    · rw [fw_p1_s h]; exact hbp h
  have hb8 : fw_b1 b ≤ 8 := by unfold fw_b1; split <;> omega
  intro m
  induction m with
  | zero => intro h; omega
  | succ m ih =>
    intro _ hm hq n H
    have hy16 : y < 65536 := Nat.lt_of_lt_of_le hy (fw_p2 q (by omega))
    rcases Nat.eq_zero_or_pos m with rfl | h0
    · refine yy_bit hp hbp hb ha (by omega) hy16 hT eT ?_
      rw [Nat.pow_one] at H
      exact H
    · have e : (y * 2 ^ m + T / 2 ^ (fw_b1 b - m) % 2 ^ m) * 2 + T / 2 ^ (fw_b1 b - m - 1) % 2 = y * 2 ^ (m + 1) + T / 2 ^ (fw_b1 b - (m + 1)) % 2 ^ (m + 1) := by
        rw [fw_chop T (fw_b1 b - (m + 1)) m, show fw_b1 b - (m + 1) + 1 = fw_b1 b - m by omega, show fw_b1 b - m - 1 = fw_b1 b - (m + 1) by omega, Nat.pow_succ, ← Nat.mul_assoc]
        omega
      have hq16 : y * 2 ^ m + T / 2 ^ (fw_b1 b - m) % 2 ^ m < 65536 := Nat.lt_of_lt_of_le (fw_ybound hy) (fw_p2 (q + m) (by omega))
      have hs : 0 < fw_b1 b - m := by omega
      rw [show n + (m + 1) = (n + 1) + m by omega]
      refine ih h0 (by omega) (by omega) (n + 1) ?_
      refine yy_bit (T := T) (by rw [fw_p1_s hs]; exact hp) (fun _ => hp0) (by omega) ha (by omega) hq16 hT (by rw [fw_p1_s hs]; exact eT) ?_
      rw [fw_p1_s hs, fw_b1_s hs, e, show fw_b1 b - m - 1 = fw_b1 b - (m + 1) by omega]
      exact H
/-! reading: the component, a part of a byte at a time -/
theorem xx_123_r {post : SX → Prop} {need y T b m n : Nat} (hm : m ≤ need) (hmb : m ≤ b) (hb : b ≤ 8) (hn : need ≤ 16) (hy : y * 2 ^ need < 65536) (hT : T < 256)
    (H : (wX_bits_89 post n (nI ((y * 2 ^ m + T / 2 ^ (b - m) % 2 ^ m) * 2 ^ (need - m))) (nI (need - m)) xit xln xrd xop xil cnt xml 0 pc pos lim (nI T) (nI (b - m)) sm st tkn dep beg oc plc rch xk xf xs wh aa bb par ri rb rv oi os ot inp lst mad vr sav)) :
    (wX_bits_123 post (wX_bits_89 post n) (nI (y * 2 ^ need)) (nI need) (nI m) xit xln xrd xop xil cnt xml 0 pc pos lim (nI T) (nI b) sm st tkn dep beg oc plc rch xk xf xs wh aa bb par ri rb rv oi os ot inp lst mad vr sav) := by
  have hd : T / 2 ^ (b - m) ≤ T := Nat.div_le_self _ _
  have hM : T / 2 ^ (b - m) % 2 ^ m < 2 ^ m := Nat.mod_lt _ (Nat.two_pow_pos m)
  have hP : 2 ^ m * 2 ^ (need - m) = 2 ^ need := by rw [← Nat.pow_add]; congr 1; omega
  have hN : T / 2 ^ (b - m) % 2 ^ m * 2 ^ (need - m) < 2 ^ need := by
    rw [← hP]; exact Nat.mul_lt_mul_of_pos_right hM (Nat.two_pow_pos _)
  have h16 := fw_p2 need hn
  have hle : T / 2 ^ (b - m) % 2 ^ m ≤ T / 2 ^ (b - m) := Nat.mod_le _ _
  refine nm_r (pk_sub hm) (nm_r (pk_sub hmb) (nm_e (br_t rfl (nm_r (e' := nI ((y * 2 ^ m + T / 2 ^ (b - m) % 2 ^ m) * 2 ^ (need - m))) ?_ ?_))))
  · rw [fw_sr (by omega) (by omega), fw_an (by omega) (by omega), fw_sh (by omega) (by omega), fw_nor, fw_ora hN, Nat.add_mul, Nat.mul_assoc, hP]
  · exact ⟨fun _ => br_t rfl H, fun _ => H⟩
theorem xx_105_r {post : SX → Prop} {need y T b n : Nat} (hb0 : 0 < b) (hb : b ≤ 8) (h0 : 0 < need) (hn : need ≤ 16) (hy : y * 2 ^ need < 65536) (hT : T < 256)
    (H : ∀ m, m = min need b → (wX_bits_89 post n (nI ((y * 2 ^ m + T / 2 ^ (b - m) % 2 ^ m) * 2 ^ (need - m))) (nI (need - m)) xit xln xrd xop xil cnt xml 0 pc pos lim (nI T) (nI (b - m)) sm st tkn dep beg oc plc rch xk xf xs wh aa bb par ri rb rv oi os ot inp lst mad vr sav)) :
    (wX_bits_105 post (wX_bits_89 post n) (nI (y * 2 ^ need)) (nI need) xit xln xrd xop xil cnt xml 0 pc pos lim (nI T) (nI b) sm st tkn dep beg oc plc rch xk xf xs wh aa bb par ri rb rv oi os ot inp lst mad vr sav) :=
  pk_le b need (fun h => xx_123_r h (Nat.le_refl _) hb hn hy hT (H b (by omega))) (fun h => xx_123_r (Nat.le_refl _) (by omega) hb hn hy hT (H need (by omega)))
theorem xx_chunk_r {post : SX → Prop} {need y T p b n : Nat} (hin : ∀ j, yin j = inp j &&& 255) (hp : fw_p1 p b ≤ 64) (hb : b ≤ 7) (h0 : 0 < need) (hn : need ≤ 16) (hy : y * 2 ^ need < 65536) (hT : T < 256) (eT : yin (fw_p1 p b - 1) = nI T) (hbb : 0 < b → bby = nI T)
    (H : ∀ m, m = min need (fw_b1 b) → (wX_bits_89 post n (nI ((y * 2 ^ m + T / 2 ^ (fw_b1 b - m) % 2 ^ m) * 2 ^ (need - m))) (nI (need - m)) xit xln xrd xop xil cnt xml 0 pc (nI (fw_p1 p b)) lim (nI T) (nI (fw_b1 b - m)) (fw_sum yin (fw_p1 p b)) st tkn dep beg oc plc rch xk xf xs wh aa bb par ri rb rv oi os ot inp lst mad vr sav)) :
    (wX_bits_89 post (n + 1) (nI (y * 2 ^ need)) (nI need) xit xln xrd xop xil cnt xml 0 pc (nI p) lim bby (nI b) (fw_sum yin p) st tkn dep beg oc plc rch xk xf xs wh aa bb par ri rb rv oi os ot inp lst mad vr sav) := by
  refine br_f (nI_nle h0 (by omega)) ?_
  rcases Nat.eq_zero_or_pos b with rfl | h
  · rw [fw_p1_0] at hp eT
    simp only [fw_p1_0, fw_b1_0] at H
    have e : fw_sum yin p + (inp p &&& 255) = fw_sum yin (p + 1) := by rw [← hin]; rfl
    have eT' : inp p &&& 255 = nI T := by rw [← hin]; exact eT
    refine br_t rfl (br_t rfl (xx_byte (by omega) ?_))
    rw [e, eT']
    exact xx_105_r (b := 8) (by omega) (by omega) h0 hn hy hT H
  · rw [fw_p1_s h] at hp eT
    simp only [fw_p1_s h, fw_b1_s h] at H
    refine br_f (nI_ne0 h (by omega)) ?_
    rw [hbb h]
    exact xx_105_r h (by omega) h0 hn hy hT H
theorem fw_more_step {need b p L m : Nat} (hb : b ≤ 7) (h0 : 0 < need) (h : p + fw_more need b ≤ L) (hm : m = min need (fw_b1 b)) : fw_p1 p b + fw_more (need - m) (fw_b1 b - m) ≤ L ∧ 1 ≤ m ∧ m ≤ need ∧ m ≤ fw_b1 b ∧ fw_b1 b - m ≤ 7 ∧ fw_p1 p b ≤ L := by
  subst hm
  unfold fw_more fw_p1 fw_b1 at *
  split at h <;> split <;> split <;> omega
/-- both sides read a number of bits -/
theorem jj_bits_r {a c i L : Nat} {w : Int32} (hin : ∀ j, yin j = inp j &&& 255) (hL : L ≤ 64) (ha : a ≤ 16) (hi : i < 41) (hc : c < 40) (ew : bb i &&& 7 = w) (hw : vp_in w 8) :
    ∀ k need q y p b bby, need ≤ k → q + need = a → y < 2 ^ q → b ≤ 7 → (0 < b → 0 < p ∧ bby = yin (p - 1)) → p ≤ L → p + fw_more need b ≤ L →
    ∃ (p' b' : Nat) (bby' x : Int32), p ≤ p' ∧ p' ≤ L ∧ b' ≤ 7 ∧ (0 < b' → 0 < p' ∧ bby' = yin (p' - 1)) ∧
      (∀ post : SX → Prop, post (xit, xln, xrd, xop, xil, nI (c + 1), xml, 0, nI i, nI p', lim, bby', nI b', fw_sum yin p', st, tkn, dep, beg, oc, plc, rch, xk, xf, xs, wh, aa, bb, par, ri, rb, rv, oi, os, ot, inp, upd lst c x, mad, upd vr w.toNatClampNeg x, sav) → ∀ n, need < n → (wX_bits_89 post n (nI (y * 2 ^ need)) (nI need) xit xln xrd xop xil (nI c) xml 0 (nI i) (nI p) lim bby (nI b) (fw_sum yin p) st tkn dep beg oc plc rch xk xf xs wh aa bb par ri rb rv oi os ot inp lst mad vr sav)) ∧
      (∀ post : Int32 → SY → Prop, post 0 (yit, ysz, yfd, nI (c + 1), ymd, ysa, ytk, ydp, nI p', nI b', yst, yus, ynx, yra, yrd, yks, yas, ybs, yk, yf, ys, yin, upd yli c x, you, upd yva w.toNatClampNeg x, yop, ynu, yse, yth) → ∀ n, need < n → (wY_take_174 post w (nI a) yit ysz yfd (nI c) ymd ysa ytk ydp yst yus ynx yra yrd yks yas ybs yk yf ys yin yli you yva yop ynu yse yth n (nI y) (nI q) (nI p) (nI b))) := by
  intro k
  induction k with
  | zero =>
    intro need q y p b bby hk hq hy hb hbb hpL hm
    obtain rfl : need = 0 := by omega
    obtain rfl : q = a := by omega
    refine ⟨p, b, bby, nI y, Nat.le_refl _, hpL, hb, hbb, fun post H n hn => ?_, fun post H n hn => ?_⟩
    · obtain ⟨n, rfl⟩ : ∃ q, n = q + 1 := ⟨n - 1, by omega⟩
      refine br_t (by decide) (And.intro (vp_in_nI hi (by decide)) ?_)
      rw [nI_clamp (by omega), ew, Nat.pow_zero, Nat.mul_one]
      exact xx_keep_r hw hc H
    · obtain ⟨n, rfl⟩ : ∃ q, n = q + 1 := ⟨n - 1, by omega⟩
      exact br_t (Int32.le_refl _) (yy_keep hw hc H)
  | succ k ih =>
    intro need q y p b bby hk hq hy hb hbb hpL hm
    rcases Nat.eq_zero_or_pos need with h0 | h0
    · exact ih need q y p b bby (by omega) hq hy hb hbb hpL hm
    · obtain ⟨m, em⟩ : ∃ m, m = min need (fw_b1 b) := ⟨_, rfl⟩
      obtain ⟨g1, g2, g3, g4, g5, g6⟩ := fw_more_step hb h0 hm em
      obtain ⟨T, hT, eT⟩ := fw_byte (inp (fw_p1 p b - 1))
      rw [← hin] at eT
      have hp0 : 0 < fw_p1 p b := by
        rcases Nat.eq_zero_or_pos b with rfl | h
        · rw [fw_p1_0]; omega
        · rw [fw_p1_s h]; exact (hbb h).1
      have hbT : 0 < b → bby = nI T := by
        intro h
        rw [fw_p1_s h] at eT
        rw [(hbb h).2, eT]
      have hyn : y * 2 ^ need < 65536 := by
        have : y * 2 ^ need < 2 ^ q * 2 ^ need := Nat.mul_lt_mul_of_pos_right hy (Nat.two_pow_pos _)
        rw [← Nat.pow_add, hq] at this
        exact Nat.lt_of_lt_of_le this (fw_p2 a ha)
      obtain ⟨p', b', bby', x, i1, i2, i3, i4, iX, iY⟩ := ih (need - m) (q + m) (y * 2 ^ m + T / 2 ^ (fw_b1 b - m) % 2 ^ m) (fw_p1 p b) (fw_b1 b - m) (nI T) (by omega) (by omega) (fw_ybound hy) g5 (fun _ => ⟨hp0, eT.symm⟩) g6 g1
      refine ⟨p', b', bby', x, ?_, i2, i3, i4, fun post H n hn => ?_, fun post H n hn => ?_⟩
      · have : p ≤ fw_p1 p b := by unfold fw_p1; split <;> omega
        omega
      · obtain ⟨n, rfl⟩ : ∃ q, n = q + 1 := ⟨n - 1, by omega⟩
        refine xx_chunk_r hin (by omega) hb h0 (by omega) hyn hT eT hbT ?_
        intro m' em'
        obtain rfl : m' = m := em'.trans em.symm
        exact iX post H n (by omega)
      · obtain ⟨n, rfl⟩ : ∃ q, n = q + m := ⟨n - m, by omega⟩
        exact yy_chunk (by omega) (fun h => (hbb h).1) (by omega) ha hy hT eT m g2 g4 (by omega) n (iY post H n (by omega))
/-! writing: the reference, bit by bit -/
theorem fw_upd2 (f : Nat → Int32) (k : Nat) (a b : Int32) : upd (upd f k a) k b = upd f k b := by
  funext j
  by_cases h : j = k
  · rw [h, pk_us, pk_us]
  · rw [pk_un h, pk_un h, pk_un h]
theorem yy_38 {post : SY → Prop} {need p b V w n : Nat} (h0 : 0 < need) (hn : need ≤ 16) (hV : V < 65536) (hp0 : 0 < p) (hp : p ≤ 64) (hb0 : 0 < b) (hb : b ≤ 8) (ew : you (p - 1) = nI w)
    (H : (wY_giveBits_4 post (nI V) yit ysz yfd yls ymd ysa ytk ydp yst yus ynx yra yrd n (nI (need - 1) - 1) (nI p) (nI (b - 1)) yks yas ybs yk yf ys yin yli (upd you (p - 1) (nI (w ||| V / 2 ^ (need - 1) % 2 * 2 ^ (b - 1)))) yva yop ynu yse yth)) :
    (wY_giveBits_38 post (wY_giveBits_4 post (nI V) yit ysz yfd yls ymd ysa ytk ydp yst yus ynx yra yrd n) (nI V) (nI need - 1) yit ysz yfd yls ymd ysa ytk ydp (nI p) (nI b) yst yus ynx yra yrd yks yas ybs yk yf ys yin yli you yva yop ynu yse yth) := by
  have hd : V / 2 ^ (need - 1) ≤ V := Nat.div_le_self _ _
  have hP : 2 ^ (b - 1) ≤ 65536 := fw_p2 _ (by omega)
  have hi : vp_in (nI p - 1) 64 := by rw [fw_m1 hp0]; exact vp_in_nI (by omega) (by decide)
  have hm : V / 2 ^ (need - 1) % 2 * 2 ^ (b - 1) ≤ 1 * 2 ^ (b - 1) := Nat.mul_le_mul_right _ (by omega)
  refine nm_r (fw_m1 hb0) (And.intro hi (And.intro hi (nm_r (e' := upd you (p - 1) (nI (w ||| V / 2 ^ (need - 1) % 2 * 2 ^ (b - 1)))) ?_ (nm_r (e' := nI (need - 1) - 1) ?_ H))))
  · rw [fw_m1 hp0, nI_clamp (by omega), ew, fw_m1 h0, fw_sr (by omega) (by omega), fw_a1 (by omega), fw_sh (by omega) (by omega), fw_nor]
  · rw [fw_m1 h0]; exact (Int32.sub_eq_add_neg ..).symm
theorem yy_wbit {post : SY → Prop} {need p b V w n : Nat} (h0 : 0 < need) (hn : need ≤ 16) (hV : V < 65536) (hp : fw_p1 p b ≤ 64) (hbp : 0 < b → 0 < p) (hb : b ≤ 8) (w0 : b = 0 → w = 0) (w1 : 0 < b → you (p - 1) = nI w)
    (H : (wY_giveBits_4 post (nI V) yit ysz yfd yls ymd ysa ytk ydp yst yus ynx yra yrd n (nI (need - 1) - 1) (nI (fw_p1 p b)) (nI (fw_b1 b - 1)) yks yas ybs yk yf ys yin yli (upd you (fw_p1 p b - 1) (nI (w ||| V / 2 ^ (need - 1) % 2 * 2 ^ (fw_b1 b - 1)))) yva yop ynu yse yth)) :
    (wY_giveBits_4 post (nI V) yit ysz yfd yls ymd ysa ytk ydp yst yus ynx yra yrd (n + 1) (nI need - 1) (nI p) (nI b) yks yas ybs yk yf ys yin yli you yva yop ynu yse yth) := by
  refine br_f (by rw [fw_m1 h0]; exact nI_pos (by omega)) ?_
  rcases Nat.eq_zero_or_pos b with rfl | h
  · rw [fw_p1_0] at hp
    rw [fw_p1_0, fw_b1_0] at H
    refine br_t rfl (nm_r (nI_1 p) (And.intro (vp_in_nI (by omega) (by decide)) (nm_r (e' := upd you p 0) (by rw [nI_clamp (by omega)]) ?_)))
    refine yy_38 (b := 8) (w := w) h0 hn hV (by omega) hp (by omega) (by omega) ?_ ?_
    · rw [w0 rfl]; exact pk_us
    · rw [show p + 1 - 1 = p by omega, fw_upd2]; exact H
  · rw [fw_p1_s h] at hp
    rw [fw_p1_s h, fw_b1_s h] at H
    exact br_f (nI_ne0 h (by omega)) (yy_38 h0 hn hV (hbp h) hp h hb (w1 h) H)
theorem yy_wchunk {post : SY → Prop} {need p b V w : Nat} (hn : need ≤ 16) (hV : V < 65536) (hp : fw_p1 p b ≤ 64) (hbp : 0 < b → 0 < p) (hb : b ≤ 8) (w0 : b = 0 → w = 0) (w1 : 0 < b → you (p - 1) = nI w) :
    ∀ m, 1 ≤ m → m ≤ fw_b1 b → m ≤ need → ∀ n, (wY_giveBits_4 post (nI V) yit ysz yfd yls ymd ysa ytk ydp yst yus ynx yra yrd n (nI (need - m) - 1) (nI (fw_p1 p b)) (nI (fw_b1 b - m)) yks yas ybs yk yf ys yin yli (upd you (fw_p1 p b - 1) (nI (w ||| V / 2 ^ (need - m) % 2 ^ m * 2 ^ (fw_b1 b - m)))) yva yop ynu yse yth) →
    (wY_giveBits_4 post (nI V) yit ysz yfd yls ymd ysa ytk ydp yst yus ynx yra yrd (n + m) (nI need - 1) (nI p) (nI b) yks yas ybs yk yf ys yin yli you yva yop ynu yse yth) := by
  have hp0 : 0 < fw_p1 p b := by
    rcases Nat.eq_zero_or_pos b with rfl | h
    · rw [fw_p1_0]; omega
    · rw [fw_p1_s h]; exact hbp h
  have hb8 : fw_b1 b ≤ 8 := by unfold fw_b1; split <;> omega
  intro m
  induction m with
  | zero => intro h; omega
  | succ m ih =>
    intro _ hm hq n H
    rcases Nat.eq_zero_or_pos m with rfl | h0
    · refine yy_wbit (by omega) hn hV hp hbp hb w0 w1 ?_
      rw [Nat.pow_one] at H
      exact H
    · have hs : 0 < fw_b1 b - m := by omega
      rw [show n + (m + 1) = (n + 1) + m by omega]
      refine ih h0 (by omega) (by omega) (n + 1) ?_
      refine yy_wbit (w := w ||| V / 2 ^ (need - m) % 2 ^ m * 2 ^ (fw_b1 b - m)) (by omega) (by omega) hV (by rw [fw_p1_s hs]; exact hp) (fun _ => hp0) (by omega) (fun z => absurd z (by omega)) (fun _ => pk_us) ?_
      have hbit : V / 2 ^ (need - m - 1) % 2 * 2 ^ (fw_b1 b - m - 1) < 2 ^ (fw_b1 b - m) := by
        have : V / 2 ^ (need - m - 1) % 2 * 2 ^ (fw_b1 b - m - 1) < 2 * 2 ^ (fw_b1 b - m - 1) := Nat.mul_lt_mul_of_pos_right (by omega) (Nat.two_pow_pos _)
        rw [Nat.mul_comm 2, ← Nat.pow_succ, show (fw_b1 b - m - 1).succ = fw_b1 b - m by omega] at this
        exact this
      have e : (w ||| V / 2 ^ (need - m) % 2 ^ m * 2 ^ (fw_b1 b - m)) ||| V / 2 ^ (need - m - 1) % 2 * 2 ^ (fw_b1 b - m - 1) = w ||| V / 2 ^ (need - (m + 1)) % 2 ^ (m + 1) * 2 ^ (fw_b1 b - (m + 1)) := by
        rw [Nat.or_assoc, fw_ora hbit, fw_chop V (need - (m + 1)) m, show need - (m + 1) + 1 = need - m by omega, show need - m - 1 = need - (m + 1) by omega, show fw_b1 b - m - 1 = fw_b1 b - (m + 1) by omega, show fw_b1 b - m = (fw_b1 b - (m + 1)) + 1 by omega, Nat.pow_succ, Nat.add_mul, ← Nat.mul_assoc, Nat.mul_right_comm]
      rw [fw_p1_s hs, fw_b1_s hs, fw_upd2, e, show fw_b1 b - m - 1 = fw_b1 b - (m + 1) by omega, show need - m - 1 = need - (m + 1) by omega]
      exact H
/-! writing: the component -/
theorem xx_123_w {post : SX → Prop} {need V T b m n p : Nat} (hm : m ≤ need) (hmb : m ≤ b) (hb : b ≤ 8) (hn : need ≤ 16) (hV : V < 65536) (hT : T < 256) (hp0 : 0 < p) (hp : p ≤ 64)
    (H1 : b - m = 0 → (wX_bits_89 post n (nI V) (nI (need - m)) xit xln xrd xop xil cnt xml 1 pc (nI p) lim (nI (T ||| V / 2 ^ (need - m) % 2 ^ m * 2 ^ (b - m))) (nI (b - m)) (sm + nI (T ||| V / 2 ^ (need - m) % 2 ^ m * 2 ^ (b - m))) st tkn dep beg oc plc rch xk xf xs wh aa bb par ri rb rv oi os ot inp lst (upd mad (p - 1) (nI (T ||| V / 2 ^ (need - m) % 2 ^ m * 2 ^ (b - m))).toInt8.toInt32) vr sav))
    (H0 : 0 < b - m → (wX_bits_89 post n (nI V) (nI (need - m)) xit xln xrd xop xil cnt xml 1 pc (nI p) lim (nI (T ||| V / 2 ^ (need - m) % 2 ^ m * 2 ^ (b - m))) (nI (b - m)) sm st tkn dep beg oc plc rch xk xf xs wh aa bb par ri rb rv oi os ot inp lst mad vr sav)) :
    (wX_bits_123 post (wX_bits_89 post n) (nI V) (nI need) (nI m) xit xln xrd xop xil cnt xml 1 pc (nI p) lim (nI T) (nI b) sm st tkn dep beg oc plc rch xk xf xs wh aa bb par ri rb rv oi os ot inp lst mad vr sav) := by
  have hd : V / 2 ^ (need - m) ≤ V := Nat.div_le_self _ _
  have hM : V / 2 ^ (need - m) % 2 ^ m < 2 ^ m := Nat.mod_lt _ (Nat.two_pow_pos m)
  have hP : 2 ^ m * 2 ^ (b - m) = 2 ^ b := by rw [← Nat.pow_add]; congr 1; omega
  have hN : V / 2 ^ (need - m) % 2 ^ m * 2 ^ (b - m) < 2 ^ b := by
    rw [← hP]; exact Nat.mul_lt_mul_of_pos_right hM (Nat.two_pow_pos _)
  have h16 := fw_p2 b (by omega)
  refine nm_r (pk_sub hm) (nm_r (pk_sub hmb) (nm_e (br_f (by decide) (nm_r (e' := nI (T ||| V / 2 ^ (need - m) % 2 ^ m * 2 ^ (b - m))) ?_ ?_))))
  · rw [fw_sr (by omega) (by omega), fw_an (by omega) (by omega), fw_sh (by omega) (by omega), fw_nor]
  · rcases Nat.eq_zero_or_pos (b - m) with z | z
    · have H := H1 z
      rw [z] at H ⊢
      exact br_t rfl (br_f (by decide) (xx_fin hp0 hp H))
    · exact br_f (nI_ne0 z (by omega)) (H0 z)
theorem xx_105_w {post : SX → Prop} {need V T b n p : Nat} (hb0 : 0 < b) (hb : b ≤ 8) (h0 : 0 < need) (hn : need ≤ 16) (hV : V < 65536) (hT : T < 256) (hp0 : 0 < p) (hp : p ≤ 64)
    (H1 : ∀ m, m = min need b → b - m = 0 → (wX_bits_89 post n (nI V) (nI (need - m)) xit xln xrd xop xil cnt xml 1 pc (nI p) lim (nI (T ||| V / 2 ^ (need - m) % 2 ^ m * 2 ^ (b - m))) (nI (b - m)) (sm + nI (T ||| V / 2 ^ (need - m) % 2 ^ m * 2 ^ (b - m))) st tkn dep beg oc plc rch xk xf xs wh aa bb par ri rb rv oi os ot inp lst (upd mad (p - 1) (nI (T ||| V / 2 ^ (need - m) % 2 ^ m * 2 ^ (b - m))).toInt8.toInt32) vr sav))
    (H0 : ∀ m, m = min need b → 0 < b - m → (wX_bits_89 post n (nI V) (nI (need - m)) xit xln xrd xop xil cnt xml 1 pc (nI p) lim (nI (T ||| V / 2 ^ (need - m) % 2 ^ m * 2 ^ (b - m))) (nI (b - m)) sm st tkn dep beg oc plc rch xk xf xs wh aa bb par ri rb rv oi os ot inp lst mad vr sav)) :
    (wX_bits_105 post (wX_bits_89 post n) (nI V) (nI need) xit xln xrd xop xil cnt xml 1 pc (nI p) lim (nI T) (nI b) sm st tkn dep beg oc plc rch xk xf xs wh aa bb par ri rb rv oi os ot inp lst mad vr sav) :=
  pk_le b need (fun h => xx_123_w h (Nat.le_refl _) hb hn hV hT hp0 hp (H1 b (by omega)) (H0 b (by omega))) (fun h => xx_123_w (Nat.le_refl _) (by omega) hb hn hV hT hp0 hp (H1 need (by omega)) (H0 need (by omega)))
theorem xx_chunk_w {post : SX → Prop} {need V T p b n : Nat} (hp : fw_p1 p b ≤ 64) (hbp : 0 < b → 0 < p) (hb : b ≤ 7) (h0 : 0 < need) (hn : need ≤ 16) (hV : V < 65536) (hT : T < 256) (w0 : b = 0 → T = 0) (w1 : 0 < b → bby = nI T)
    (H1 : ∀ m, m = min need (fw_b1 b) → fw_b1 b - m = 0 → (wX_bits_89 post n (nI V) (nI (need - m)) xit xln xrd xop xil cnt xml 1 pc (nI (fw_p1 p b)) lim (nI (T ||| V / 2 ^ (need - m) % 2 ^ m * 2 ^ (fw_b1 b - m))) (nI (fw_b1 b - m)) (sm + nI (T ||| V / 2 ^ (need - m) % 2 ^ m * 2 ^ (fw_b1 b - m))) st tkn dep beg oc plc rch xk xf xs wh aa bb par ri rb rv oi os ot inp lst (upd mad (fw_p1 p b - 1) (nI (T ||| V / 2 ^ (need - m) % 2 ^ m * 2 ^ (fw_b1 b - m))).toInt8.toInt32) vr sav))
    (H0 : ∀ m, m = min need (fw_b1 b) → 0 < fw_b1 b - m → (wX_bits_89 post n (nI V) (nI (need - m)) xit xln xrd xop xil cnt xml 1 pc (nI (fw_p1 p b)) lim (nI (T ||| V / 2 ^ (need - m) % 2 ^ m * 2 ^ (fw_b1 b - m))) (nI (fw_b1 b - m)) sm st tkn dep beg oc plc rch xk xf xs wh aa bb par ri rb rv oi os ot inp lst mad vr sav)) :
    (wX_bits_89 post (n + 1) (nI V) (nI need) xit xln xrd xop xil cnt xml 1 pc (nI p) lim bby (nI b) sm st tkn dep beg oc plc rch xk xf xs wh aa bb par ri rb rv oi os ot inp lst mad vr sav) := by
  refine br_f (nI_nle h0 (by omega)) ?_
  rcases Nat.eq_zero_or_pos b with rfl | h
  · rw [fw_p1_0] at hp
    simp only [fw_p1_0, fw_b1_0] at H0 H1
    obtain rfl := w0 rfl
    exact br_t rfl (br_f (by decide) (nm_r (nI_1 p) (xx_105_w (b := 8) (T := 0) (by omega) (by omega) h0 hn hV hT (by omega) hp H1 H0)))
  · rw [fw_p1_s h] at hp
    simp only [fw_p1_s h, fw_b1_s h] at H0 H1
    refine br_f (nI_ne0 h (by omega)) ?_
    rw [w1 h]
    exact xx_105_w h (by omega) h0 hn hV hT (hbp h) hp H1 H0
/-- both sides write a number of bits -/
theorem jj_bits_w {k i L V : Nat} {w : Int32} (hL : L ≤ 64) (hi : i < 41) (hV : V < 65536) (ew : bb i &&& 7 = w) (hw : vp_in w 8) :
    ∀ q need p b bby sm mad you, need ≤ q → need ≤ 16 → fw_DP 1 xml ymd p b bby sm inp mad yin you → p ≤ L → p + fw_more need b ≤ L →
    ∃ (p' b' : Nat) (bby' sm' : Int32) (mad' you' : Nat → Int32), p ≤ p' ∧ p' ≤ L ∧ fw_DP 1 xml ymd p' b' bby' sm' inp mad' yin you' ∧
      (∀ post : SX → Prop, post (xit, xln, xrd, xop, xil, cnt, xml, 1, nI i, nI p', lim, bby', nI b', sm', st, nI (k + 1), dep, beg, oc, plc, rch, xk, xf, xs, wh, aa, bb, par, ri, rb, rv, oi, os, ot, inp, lst, mad', upd vr w.toNatClampNeg (nI V), sav) → ∀ n, need < n → (wX_bits_89 post n (nI V) (nI need) xit xln xrd xop xil cnt xml 1 (nI i) (nI p) lim bby (nI b) sm st (nI k) dep beg oc plc rch xk xf xs wh aa bb par ri rb rv oi os ot inp lst mad vr sav)) ∧
      (∀ post : SY → Prop, post (yit, ysz, yfd, yls, ymd, ysa, ytk, ydp, nI p', nI b', yst, yus, ynx, yra, yrd, yks, yas, ybs, yk, yf, ys, yin, yli, you', yva, yop, ynu, yse, yth) → ∀ n, need < n → (wY_giveBits_4 post (nI V) yit ysz yfd yls ymd ysa ytk ydp yst yus ynx yra yrd n (nI need - 1) (nI p) (nI b) yks yas ybs yk yf ys yin yli you yva yop ynu yse yth)) := by
  intro q
  induction q with
  | zero =>
    intro need p b bby sm mad you hk hn16 D hpL hm
    obtain rfl : need = 0 := by omega
    refine ⟨p, b, bby, sm, mad, you, Nat.le_refl _, hpL, D, fun post H n hn => ?_, fun post H n hn => ?_⟩
    · obtain ⟨n, rfl⟩ : ∃ q, n = q + 1 := ⟨n - 1, by omega⟩
      refine br_t (by decide) (And.intro (vp_in_nI hi (by decide)) ?_)
      rw [nI_clamp (by omega), ew]
      exact xx_keep_w hw H
    · obtain ⟨n, rfl⟩ : ∃ q, n = q + 1 := ⟨n - 1, by omega⟩
      exact br_t (by decide) H
  | succ q ih =>
    intro need p b bby sm mad you hk hn16 D hpL hm
    rcases Nat.eq_zero_or_pos need with h0 | h0
    · exact ih need p b bby sm mad you (by omega) hn16 D hpL hm
    · obtain ⟨m, em⟩ : ∃ m, m = min need (fw_b1 b) := ⟨_, rfl⟩
      obtain ⟨hb, hp64, hbp, hin, D⟩ := D
      obtain ⟨g1, g2, g3, g4, g5, g6⟩ := fw_more_step hb h0 hm em
      obtain ⟨d1, d2, d3⟩ : (0 < b → bby = you (p - 1) ∧ bby &&& 255 = bby) ∧ sm = fw_sum you (p - fw_c b) ∧ ∀ j, j < p - fw_c b → mad j &&& 255 = you j := by
        rcases D with ⟨h, _⟩ | ⟨_, h⟩
        · exact absurd h (by decide)
        · exact h
      obtain ⟨T, hT, w0, w1, w2⟩ : ∃ T : Nat, T < 256 ∧ (b = 0 → T = 0) ∧ (0 < b → bby = nI T) ∧ (0 < b → you (p - 1) = nI T) := by
        rcases Nat.eq_zero_or_pos b with z | z
        · exact ⟨0, by omega, fun _ => rfl, fun h => absurd h (by omega), fun h => absurd h (by omega)⟩
        · obtain ⟨T, hT, e⟩ := fw_byte bby
          rw [(d1 z).2] at e
          exact ⟨T, hT, fun h => absurd h (by omega), fun _ => e, fun _ => by rw [← (d1 z).1]; exact e⟩
      have hp0 : 0 < fw_p1 p b := by
        rcases Nat.eq_zero_or_pos b with rfl | h
        · rw [fw_p1_0]; omega
        · rw [fw_p1_s h]; exact hbp h
      have hpc : fw_p1 p b - 1 = p - fw_c b := by
        rcases Nat.eq_zero_or_pos b with rfl | h
        · rw [fw_p1_0, fw_c0]; omega
        · rw [fw_p1_s h, fw_c1 h]
      have hb8 : fw_b1 b ≤ 8 := by unfold fw_b1; split <;> omega
      generalize eN : T ||| V / 2 ^ (need - m) % 2 ^ m * 2 ^ (fw_b1 b - m) = N
      have hN : N < 256 := by
        rw [← eN]
        have hM : V / 2 ^ (need - m) % 2 ^ m < 2 ^ m := Nat.mod_lt _ (Nat.two_pow_pos m)
        have hP : 2 ^ m * 2 ^ (fw_b1 b - m) = 2 ^ fw_b1 b := by rw [← Nat.pow_add]; congr 1; omega
        have h1 : V / 2 ^ (need - m) % 2 ^ m * 2 ^ (fw_b1 b - m) < 2 ^ fw_b1 b := by
          rw [← hP]; exact Nat.mul_lt_mul_of_pos_right hM (Nat.two_pow_pos _)
        have h2 : 2 ^ fw_b1 b ≤ 2 ^ 8 := Nat.pow_le_pow_right (by omega) hb8
        exact Nat.or_lt_two_pow (n := 8) hT (Nat.lt_of_lt_of_le h1 h2)
      have hN255 : nI N &&& 255 = nI N := by
        rw [pk_andN (by omega) 8 (by decide), Nat.mod_eq_of_lt hN]
      have low : ∀ j, j < fw_p1 p b - 1 → mad j &&& 255 = upd you (fw_p1 p b - 1) (nI N) j := by
        intro j hj
        rw [pk_un (by omega)]
        exact d3 j (by omega)
      have lsum : sm = fw_sum (upd you (fw_p1 p b - 1) (nI N)) (fw_p1 p b - 1) := by
        rw [d2, ← hpc]
        exact fw_sum_congr _ (fun j hj => (pk_un (by omega)).symm)
      have hpp : p ≤ fw_p1 p b := by unfold fw_p1; split <;> omega
      have YC : ∀ post : SY → Prop, ∀ n, (wY_giveBits_4 post (nI V) yit ysz yfd yls ymd ysa ytk ydp yst yus ynx yra yrd n (nI (need - m) - 1) (nI (fw_p1 p b)) (nI (fw_b1 b - m)) yks yas ybs yk yf ys yin yli (upd you (fw_p1 p b - 1) (nI N)) yva yop ynu yse yth) → (wY_giveBits_4 post (nI V) yit ysz yfd yls ymd ysa ytk ydp yst yus ynx yra yrd (n + m) (nI need - 1) (nI p) (nI b) yks yas ybs yk yf ys yin yli you yva yop ynu yse yth) := by
        intro post n H
        refine yy_wchunk (w := T) hn16 hV (by omega) hbp (by omega) w0 w2 m g2 g4 g3 n ?_
        rw [eN]; exact H
      rcases Nat.eq_zero_or_pos (fw_b1 b - m) with z | z
      · have D' : fw_DP 1 xml ymd (fw_p1 p b) 0 (nI N) (sm + nI N) inp (upd mad (fw_p1 p b - 1) (nI N).toInt8.toInt32) yin (upd you (fw_p1 p b - 1) (nI N)) := by
          refine ⟨by omega, by omega, fun h => absurd h (by omega), hin, Or.inr ⟨rfl, fun h => absurd h (by omega), ?_, ?_⟩⟩
          · rw [fw_c0, lsum]
            obtain ⟨r, er⟩ : ∃ r, fw_p1 p b = r + 1 := ⟨fw_p1 p b - 1, by omega⟩
            rw [er]
            show _ = fw_sum (upd you r (nI N)) r + upd you r (nI N) r
            rw [pk_us]
            rfl
          · intro j hj
            rw [fw_c0] at hj
            by_cases e : j = fw_p1 p b - 1
            · rw [e, pk_us, pk_us, bp_b, hN255]
            · rw [pk_un e]; exact low j (by omega)
        obtain ⟨p', b', bby', sm', mad', you', i1, i2, i3, iX, iY⟩ := ih (need - m) (fw_p1 p b) 0 (nI N) _ _ _ (by omega) (by omega) D' g6 (by rw [← z]; exact g1)
        refine ⟨p', b', bby', sm', mad', you', by omega, i2, i3, fun post H n hn => ?_, fun post H n hn => ?_⟩
        · obtain ⟨n, rfl⟩ : ∃ q, n = q + 1 := ⟨n - 1, by omega⟩
          refine xx_chunk_w (T := T) (by omega) hbp hb h0 hn16 hV hT w0 w1 ?_ ?_
          · intro m' em' _
            obtain rfl : m' = m := em'.trans em.symm
            rw [eN, z]
            exact iX post H n (by omega)
          · intro m' em' z'
            obtain rfl : m' = m := em'.trans em.symm
            omega
        · obtain ⟨n, rfl⟩ : ∃ q, n = q + m := ⟨n - m, by omega⟩
          refine YC post n ?_
          rw [z]
          exact iY post H n (by omega)
      · have D' : fw_DP 1 xml ymd (fw_p1 p b) (fw_b1 b - m) (nI N) sm inp mad yin (upd you (fw_p1 p b - 1) (nI N)) := by
          refine ⟨by omega, by omega, fun h => hp0, hin, Or.inr ⟨rfl, fun h => ⟨pk_us.symm, hN255⟩, ?_, ?_⟩⟩
          · rw [fw_c1 z]; exact lsum
          · rw [fw_c1 z]; exact low
        obtain ⟨p', b', bby', sm', mad', you', i1, i2, i3, iX, iY⟩ := ih (need - m) (fw_p1 p b) (fw_b1 b - m) (nI N) _ _ _ (by omega) (by omega) D' g6 g1
        refine ⟨p', b', bby', sm', mad', you', by omega, i2, i3, fun post H n hn => ?_, fun post H n hn => ?_⟩
        · obtain ⟨n, rfl⟩ : ∃ q, n = q + 1 := ⟨n - 1, by omega⟩
          refine xx_chunk_w (T := T) (by omega) hbp hb h0 hn16 hV hT w0 w1 ?_ ?_
          · intro m' em' z'
            obtain rfl : m' = m := em'.trans em.symm
            omega
          · intro m' em' _
            obtain rfl : m' = m := em'.trans em.symm
            rw [eN]
            exact iX post H n (by omega)
        · obtain ⟨n, rfl⟩ : ∃ q, n = q + m := ⟨n - m, by omega⟩
          exact YC post n (iY post H n (by omega))
end
section
/-! bits: the two methods' heads -/
variable {xit xln xrd xop xil cnt xml wr pc pos lim bby bl sm st tkn dep beg oc plc rch : Int32} {xk xf xs wh aa bb par ri rb rv oi os ot inp lst mad vr sav : Nat → Int32} {yit ysz yfd yls ymd ysa ytk ydp yps ybt yst yus ynx yra yrd : Int32} {yks yas ybs yk yf ys yin yli you yva yop ynu yse yth : Nat → Int32}
theorem fw_eq0 (y : Int32) : y = 0 ↔ y.toBitVec.toNat = 0 := by
  constructor
  · intro h; rw [h]; decide
  · intro h; rw [fw_of32 y, h]; decide
theorem fw_ush0 {x : Int32} {a : Nat} (ha : a < 32) : (x.toUInt32 >>> ((nI a).toUInt32 &&& Int32.toUInt32 31)).toInt32 = 0 ↔ x.toBitVec.toNat < 2 ^ a := by
  rw [fw_eq0, pk_ushr x (nI a) a (s_u a ha)]
  exact Nat.div_eq_zero_iff_lt (Nat.two_pow_pos a)
theorem fw_ssh0 {x : Int32} {a : Nat} (ha : a < 32) : x >>> (nI a &&& 31) = 0 ↔ x.toBitVec.toNat < 2 ^ a := by
  rw [← fw_ush0 ha]
  constructor
  · intro e
    have hj : ∀ j, a ≤ j → bt x j = false := by
      intro j hj
      by_cases h : j < 32
      · have q : bt (x >>> (nI a &&& 31)) (j - a) = false := by rw [e, b_0]
        rw [b_sshr a ha x (by omega), if_pos (by omega), show a + (j - a) = j by omega] at q
        exact q
      · exact b_big (by omega)
    exact b_ext (fun i hi => by rw [b_ushr a ha, b_0]; exact hj _ (by omega))
  · intro e
    have hj : ∀ j, a ≤ j → bt x j = false := by
      intro j hj
      have q : bt ((x.toUInt32 >>> ((nI a).toUInt32 &&& Int32.toUInt32 31)).toInt32) (j - a) = false := by rw [e, b_0]
      rw [b_ushr a ha, show a + (j - a) = j by omega] at q
      exact q
    refine b_ext (fun i hi => ?_)
    rw [b_sshr a ha x hi, b_0]
    split
    · exact hj _ (by omega)
    · exact hj _ (by omega)
theorem fw_more_i {a b : Nat} (ha : a ≤ 16) (h : b < a) : ((nI a - nI b) + 7) / 8 = nI (fw_more a b) := by
  rw [pk_sub (by omega), show (7 : Int32) = nI 7 from rfl, nI_add, show (8 : Int32) = nI 8 from rfl, pk_div (by omega) (by decide) (by decide), fw_more, if_neg (by omega)]
theorem fw_more_le {a b : Nat} (ha : a ≤ 16) : fw_more a b ≤ 2 := by
  unfold fw_more; split <;> omega
theorem xx_bits {post : SX → Prop} {a b : Nat} (ha : a ≤ 16) (hb : b ≤ 7) (H : (wX_bits_24 post (nI a) (nI (fw_more a b)) xit xln xrd xop xil cnt xml wr pc pos lim bby (nI b) sm st tkn dep beg oc plc rch xk xf xs wh aa bb par ri rb rv oi os ot inp lst mad vr sav)) : (wpX_bits post (xit, xln, xrd, xop, xil, cnt, xml, wr, pc, pos, lim, bby, nI b, sm, st, tkn, dep, beg, oc, plc, rch, xk, xf, xs, wh, aa, bb, par, ri, rb, rv, oi, os, ot, inp, lst, mad, vr, sav) (nI a)) := by
  refine pk_le a b (fun h => ?_) (fun h => And.intro (by decide) ?_)
  · have e : fw_more a b = 0 := if_pos h
    rw [e] at H; exact H
  · rw [fw_more_i ha h]; exact H
theorem xx_bits_r {post : SX → Prop} {a b p L : Nat} (ha : a ≤ 16) (hb : b ≤ 7) (hL : L ≤ 64) (hp : p ≤ L)
    (H3 : L < p + fw_more a b → post (xit, xln, xrd, xop, xil, cnt, xml, 0, pc, nI p, nI L, bby, nI b, sm, st, tkn, dep, beg, 3, pc, beg, xk, xf, xs, wh, aa, bb, par, ri, rb, rv, oi, os, ot, inp, lst, mad, vr, sav))
    (H : p + fw_more a b ≤ L → ∃ n, (wX_bits_89 post n 0 (nI a) xit xln xrd xop xil cnt xml 0 pc (nI p) (nI L) bby (nI b) sm st tkn dep beg (-1) plc rch xk xf xs wh aa bb par ri rb rv oi os ot inp lst mad vr sav)) :
    (wpX_bits post (xit, xln, xrd, xop, xil, cnt, xml, 0, pc, nI p, nI L, bby, nI b, sm, st, tkn, dep, beg, (-1), plc, rch, xk, xf, xs, wh, aa, bb, par, ri, rb, rv, oi, os, ot, inp, lst, mad, vr, sav) (nI a)) := by
  have h2 := fw_more_le (a := a) (b := b) ha
  refine xx_bits ha hb (br_t rfl (br_t ((fw_ush0 (by omega)).mpr (Nat.lt_of_le_of_lt (Nat.le_of_eq (by decide)) (Nat.two_pow_pos a))) ?_))
  rw [nI_add]
  exact pk_le (p + fw_more a b) L (fun h => br_t (by decide) (H h)) (fun h => xx_end (by decide) (br_f (by decide) (H3 h)))
theorem xx_bits_w {post : SX → Prop} {a b p L k : Nat} (ha : a ≤ 16) (hb : b ≤ 7) (hL : L ≤ 64) (hp : p ≤ L) (hk : k < 40)
    (H4 : ¬ (lst k).toBitVec.toNat < 2 ^ a → post (xit, xln, xrd, xop, xil, cnt, xml, 1, pc, nI p, nI L, bby, nI b, sm, st, nI k, dep, beg, 4, pc, beg, xk, xf, xs, wh, aa, bb, par, ri, rb, rv, oi, os, ot, inp, lst, mad, vr, sav))
    (H3 : (lst k).toBitVec.toNat < 2 ^ a → L < p + fw_more a b → post (xit, xln, xrd, xop, xil, cnt, xml, 1, pc, nI p, nI L, bby, nI b, sm, st, nI k, dep, beg, 3, pc, beg, xk, xf, xs, wh, aa, bb, par, ri, rb, rv, oi, os, ot, inp, lst, mad, vr, sav))
    (H : (lst k).toBitVec.toNat < 2 ^ a → p + fw_more a b ≤ L → ∃ n, (wX_bits_89 post n (lst k) (nI a) xit xln xrd xop xil cnt xml 1 pc (nI p) (nI L) bby (nI b) sm st (nI k) dep beg (-1) plc rch xk xf xs wh aa bb par ri rb rv oi os ot inp lst mad vr sav)) :
    (wpX_bits post (xit, xln, xrd, xop, xil, cnt, xml, 1, pc, nI p, nI L, bby, nI b, sm, st, nI k, dep, beg, (-1), plc, rch, xk, xf, xs, wh, aa, bb, par, ri, rb, rv, oi, os, ot, inp, lst, mad, vr, sav) (nI a)) := by
  have h2 := fw_more_le (a := a) (b := b) ha
  refine xx_bits ha hb (br_f (by decide) (And.intro (vp_in_nI hk (by decide)) ?_))
  rw [nI_clamp (by omega)]
  refine ⟨fun z => ?_, fun z => xx_end (by decide) (br_f (by decide) (H4 (fun w => z ((fw_ush0 (by omega)).mpr w))))⟩
  rw [nI_add]
  have z' := (fw_ush0 (by omega)).mp z
  exact pk_le (p + fw_more a b) L (fun h => br_t (by decide) (H z' h)) (fun h => xx_end (by decide) (br_f (by decide) (H3 z' h)))
theorem yy_wanted {post : Int32 → Prop} {a b : Nat} (ha : a ≤ 16) (hb : b ≤ 7) (H : post (nI (fw_more a b))) : (wpY_wanted post (yit, ysz, yfd, yls, ymd, ysa, ytk, ydp, yps, nI b, yst, yus, ynx, yra, yrd, yks, yas, ybs, yk, yf, ys, yin, yli, you, yva, yop, ynu, yse, yth) (nI a)) := by
  refine pk_le a b (fun h => ?_) (fun h => And.intro (by decide) ?_)
  · have e : fw_more a b = 0 := if_pos h
    rw [e] at H; exact H
  · rw [fw_more_i ha h]; exact H
theorem yy_bits_r {post : Int32 → SY → Prop} {a b p i B : Nat} {w : Int32} {s : List (Nat × Nat)} {t : List Nat} (M : fw_MD wr yrd yfd B) (S : fw_SK yk B yop ynu sav s t) (hl : s.length ≤ 4) (hp : p ≤ fw_LM yk B s) (hi : i < 40) (ha : a ≤ 16) (hb : b ≤ 7) (hf : yf i = nI a)
    (H3 : fw_LM yk B s < p + fw_more a b → post 3 (yit, ysz, yfd, yls, ymd, ysa, ytk, nI s.length, nI p, nI b, yst, yus, ynx, yra, yrd, yks, yas, ybs, yk, yf, ys, yin, yli, you, yva, yop, ynu, yse, yth))
    (H : p + fw_more a b ≤ fw_LM yk B s → ∃ n, (wY_take_174 post w (nI a) yit ysz yfd yls ymd ysa ytk (nI s.length) yst yus ynx yra yrd yks yas ybs yk yf ys yin yli you yva yop ynu yse yth n 0 0 (nI p) (nI b))) :
    (wpY_take post (yit, ysz, yfd, yls, ymd, ysa, ytk, nI s.length, nI p, nI b, yst, yus, ynx, yra, yrd, yks, yas, ybs, yk, yf, ys, yin, yli, you, yva, yop, ynu, yse, yth) 2 (nI i) w) := by
  have h2 := fw_more_le (a := a) (b := b) ha
  refine And.intro (vp_in_nI hi (by decide)) (nm_r (e' := nI a) (by rw [nI_clamp (by omega)]; exact hf) (br_f (by decide) (br_f (by decide) (yy_wanted ha hb ?_))))
  exact yy_room M S hl hp (by omega) (fun h => br_f (by decide) (br_f (by decide) (H h))) (fun h => br_t rfl (H3 h))
theorem yy_bits_w {post : Int32 → SY → Prop} {a b p c k i B : Nat} {w : Int32} {s : List (Nat × Nat)} {t : List Nat} (M : fw_MD wr yrd yfd B) (S : fw_SK yk B yop ynu sav s t) (hl : s.length ≤ 4) (hp : p ≤ fw_LM yk B s) (hi : i < 40) (ha : a ≤ 16) (hb : b ≤ 7) (hf : yf i = nI a) (hk : k < c) (hc : c ≤ 40) (hw : vp_in w 8)
    (H4 : ¬ (yli k).toBitVec.toNat < 2 ^ a → post 4 (yit, ysz, yfd, nI c, ymd, ysa, ytk, nI s.length, nI p, nI b, yst, nI k, ynx, yra, yrd, yks, yas, ybs, yk, yf, ys, yin, yli, you, yva, yop, ynu, yse, yth))
    (H3 : (yli k).toBitVec.toNat < 2 ^ a → fw_LM yk B s < p + fw_more a b → post 3 (yit, ysz, yfd, nI c, ymd, ysa, ytk, nI s.length, nI p, nI b, yst, nI k, ynx, yra, yrd, yks, yas, ybs, yk, yf, ys, yin, yli, you, yva, yop, ynu, yse, yth))
    (H : (yli k).toBitVec.toNat < 2 ^ a → p + fw_more a b ≤ fw_LM yk B s → ∃ n, (wY_giveBits_4 (fun v => post 0 v) (yli k) yit ysz yfd (nI c) ymd ysa ytk (nI s.length) yst (nI (k + 1)) ynx yra yrd n (nI a - 1) (nI p) (nI b) yks yas ybs yk yf ys yin yli you (upd yva w.toNatClampNeg (yli k)) yop ynu yse yth)) :
    (wpY_give post (yit, ysz, yfd, nI c, ymd, ysa, ytk, nI s.length, nI p, nI b, yst, nI k, ynx, yra, yrd, yks, yas, ybs, yk, yf, ys, yin, yli, you, yva, yop, ynu, yse, yth) 2 (nI i) w) := by
  have h2 := fw_more_le (a := a) (b := b) ha
  refine br_f (by rw [nI_eq (by omega) (by omega)]; omega) (And.intro (vp_in_nI (by omega) (by decide)) (nm_r (e' := yli k) (by rw [nI_clamp (by omega)]) (And.intro (vp_in_nI hi (by decide)) (nm_r (e' := nI a) (by rw [nI_clamp (by omega)]; exact hf) (br_f (by decide) (br_f (by decide) (br_f (by decide) (br_f ?_ (br_t rfl ⟨fun z => ?_, fun z => yy_g124 (H4 (fun q => z ((fw_ssh0 (by omega)).mpr q)))⟩)))))))))
  · rw [show (32 : Int32) = nI 32 from rfl, nI_eq (by omega) (by omega)]; omega
  · have z' := (fw_ssh0 (by omega)).mp z
    refine yy_g125 (fun n => br_t rfl (br_f (by decide) (br_f (by decide) (yy_wanted ha hb (yy_room M S hl hp (by omega) (fun h => br_f (by decide) ?_) (fun h => br_t rfl (H3 z' h)))))))
    exact nm_r (nI_1 k) (And.intro hw (nm_e (br_f (by decide) (br_f (by decide) (nm_e (H z' h))))))
end
section
/-! the relation in a run, a step, and the ways into an item -/
def fw_X66 (post : SX → Prop) (n : Nat) (u : SX) : Prop := match u with
  | (xit, xln, xrd, xop, xil, cnt, xml, wr, pc, pos, lim, bby, bl, sm, st, tkn, dep, beg, oc, plc, rch, xk, xf, xs, wh, aa, bb, par, ri, rb, rv, oi, os, ot, inp, lst, mad, vr, sav) => (wX_go_66 post n xit xln xrd xop xil cnt xml wr pc pos lim bby bl sm st tkn dep beg oc plc rch xk xf xs wh aa bb par ri rb rv oi os ot inp lst mad vr sav)
def fw_Y50 (post : Int32 → SY → Prop) (n : Nat) (x1 x2 : Int32) (v : SY) : Prop := match v with
  | (yit, ysz, yfd, yls, ymd, ysa, ytk, ydp, yps, ybt, yst, yus, ynx, yra, yrd, yks, yas, ybs, yk, yf, ys, yin, yli, you, yva, yop, ynu, yse, yth) => (wY_run_50 post n x1 x2 yit ysz yfd yls ymd ysa ytk ydp yps ybt yst yus ynx yra yrd yks yas ybs yk yf ys yin yli you yva yop ynu yse yth)
def fw_X143 (post : SX → Prop) (x1 : Int32) (u : SX) : Prop := match u with
  | (xit, xln, xrd, xop, xil, cnt, xml, wr, pc, pos, lim, bby, bl, sm, st, tkn, dep, beg, oc, plc, rch, xk, xf, xs, wh, aa, bb, par, ri, rb, rv, oi, os, ot, inp, lst, mad, vr, sav) => (wX_item_143 post x1 xit xln xrd xop xil cnt xml wr pc pos lim bby bl sm st tkn dep beg oc plc rch xk xf xs wh aa bb par ri rb rv oi os ot inp lst mad vr sav)
def fw_Y113 (post : Int32 → SY → Prop) (x1 x2 : Int32) (v : SY) : Prop := match v with
  | (yit, ysz, yfd, yls, ymd, ysa, ytk, ydp, yps, ybt, yst, yus, ynx, yra, yrd, yks, yas, ybs, yk, yf, ys, yin, yli, you, yva, yop, ynu, yse, yth) => (wY_item_113 post x1 x2 yit ysz yfd yls ymd ysa ytk ydp yps ybt yst yus ynx yra yrd yks yas ybs yk yf ys yin yli you yva yop ynu yse yth)
def fw_STAT (xit xrd xil yit yfd : Int32) (xk xf xs yks yas ybs : Nat → Int32) : Prop :=
  xrd = 1 ∧ yit = xit ∧ yks = xk ∧ yas = xf ∧ ybs = xs ∧ (∃ m : Nat, m ≤ 40 ∧ xit = nI m ∧ ∀ j, j < m → fw_FV (xk j) (xf j)) ∧ ∃ q : Nat, q ≤ 64 ∧ xil = nI q ∧ yfd = nI q
def fw_ms (n i t : Nat) (yk : Nat → Int32) (s : List (Nat × Nat)) : Nat := (400 - t) * 8000 + 41 * fw_MS yk s + (n - i) + 2
def fw_RF (n B i m p b t k c : Nat) (s : List (Nat × Nat)) (xit xrd xil xml wr bby sm : Int32) (xk xf xs wh aa bb par ri rb rv inp mad sav : Nat → Int32) (yit yfd ymd yrd : Int32) (yks yas ybs yk yf ys yin you yop ynu : Nat → Int32) : Prop :=
  (fw_STAT xit xrd xil yit yfd xk xf xs yks yas ybs) ∧ (fw_FMT n yk yf ys wh aa bb par ri rb rv) ∧ (fw_MD wr yrd yfd B) ∧ (fw_DP wr xml ymd p b bby sm inp mad yin you) ∧ fw_SK yk B yop ynu sav s (fw_st yk i) ∧ i ≤ n ∧ t ≤ 400 ∧ k ≤ c ∧ c ≤ 40 ∧ p ≤ fw_LM yk B s ∧ m = fw_ms n i t yk s
def fw_RUN (g : Int32) (i m : Nat) (u : SX) (v : SY) : Prop := match u, v with
  | (xit, xln, xrd, xop, xil, cnt, xml, wr, pc, pos, lim, bby, bl, sm, st, tkn, dep, beg, oc, plc, rch, xk, xf, xs, wh, aa, bb, par, ri, rb, rv, oi, os, ot, inp, lst, mad, vr, sav), (yit, ysz, yfd, yls, ymd, ysa, ytk, ydp, yps, ybt, yst, yus, ynx, yra, yrd, yks, yas, ybs, yk, yf, ys, yin, yli, you, yva, yop, ynu, yse, yth) => ∃ (n B p b t k c : Nat) (s : List (Nat × Nat)), (fw_RF n B i m p b t k c s xit xrd xil xml wr bby sm xk xf xs wh aa bb par ri rb rv inp mad sav yit yfd ymd yrd yks yas ybs yk yf ys yin you yop ynu) ∧
      (cnt = nI c ∧ pc = nI i ∧ pos = nI p ∧ lim = nI (fw_LM yk B s) ∧ bl = nI b ∧ st = nI t ∧ tkn = nI k ∧ dep = nI (fw_RK yk s) ∧ oc = -1 ∧ wr = g) ∧
      (ysz = nI n ∧ yls = nI c ∧ yps = nI p ∧ ybt = nI b ∧ yst = nI t ∧ yus = nI k ∧ ydp = nI s.length ∧ yli = lst ∧ yva = vr)
def fw_FIN (g h : Int32) (u : SX) (v : SY) : Prop := match u, v with
  | (xit, xln, xrd, xop, xil, cnt, xml, wr, pc, pos, lim, bby, bl, sm, st, tkn, dep, beg, oc, plc, rch, xk, xf, xs, wh, aa, bb, par, ri, rb, rv, oi, os, ot, inp, lst, mad, vr, sav), (yit, ysz, yfd, yls, ymd, ysa, ytk, ydp, yps, ybt, yst, yus, ynx, yra, yrd, yks, yas, ybs, yk, yf, ys, yin, yli, you, yva, yop, ynu, yse, yth) => ∃ (n c : Nat), (fw_STAT xit xrd xil yit yfd xk xf xs yks yas ybs) ∧ (fw_FMT n yk yf ys wh aa bb par ri rb rv) ∧ (∀ j, yin j = inp j &&& 255) ∧ c ≤ 40 ∧ cnt = nI c ∧ ysz = nI n ∧ yls = nI c ∧ yli = lst ∧ yva = vr ∧ oc = h ∧ plc = ysa ∧ rch = ytk ∧ wr = g ∧
      ((wr = 0 ∧ ∃ w : Nat, w ≤ 64 ∧ xml = nI w ∧ ymd = nI w ∧ ∀ j, j < w → mad j &&& 255 = you j) ∨
       (wr = 1 ∧ ∃ p b : Nat, pos = nI p ∧ yps = nI p ∧ bl = nI b ∧ ybt = nI b ∧ p ≤ 64 ∧ b ≤ 7 ∧ (0 < b → 0 < p) ∧ ∀ j, j < p - fw_c b → mad j &&& 255 = you j))
/-- one step of the component, c steps of the reference; or the end of both -/
def fw_ST (g : Int32) (i m : Nat) (u : SX) (v : SY) : Prop :=
  (∃ (i' m' c : Nat) (u' : SX) (v' : SY), 1 ≤ c ∧ m' + c ≤ m ∧ fw_RUN g i' m' u' v' ∧ (∀ post q, fw_X66 post q u' → fw_X66 post (q + 1) u) ∧ (∀ post q, fw_Y50 post q 0 (nI i') v' → fw_Y50 post (q + c) 0 (nI i) v)) ∨
  (∃ (h : Int32) (u' : SX) (v' : SY) (f : Nat), f ≤ m ∧ fw_FIN g h u' v' ∧ (∀ post q, post u' → fw_X66 post (q + 2) u) ∧ (∀ post q, post h v' → fw_Y50 post (q + f) 0 (nI i) v))
theorem fw_RUN_el {P : SX → SY → Prop} {g : Int32} {i m : Nat} {u : SX} {v : SY} (I : fw_RUN g i m u v)
    (h : ∀ (xit xln xrd xop xil xml bby sm beg plc rch : Int32) (xk xf xs wh aa bb par ri rb rv oi os ot inp lst mad vr sav : Nat → Int32) (yit yfd ymd ysa ytk ynx yra yrd : Int32) (yks yas ybs yk yf ys yin you yop ynu yse yth : Nat → Int32) (n B p b t k c : Nat) (s : List (Nat × Nat)), (fw_RF n B i m p b t k c s xit xrd xil xml g bby sm xk xf xs wh aa bb par ri rb rv inp mad sav yit yfd ymd yrd yks yas ybs yk yf ys yin you yop ynu) → P (xit, xln, xrd, xop, xil, nI c, xml, g, nI i, nI p, nI (fw_LM yk B s), bby, nI b, sm, nI t, nI k, nI (fw_RK yk s), beg, (-1), plc, rch, xk, xf, xs, wh, aa, bb, par, ri, rb, rv, oi, os, ot, inp, lst, mad, vr, sav) (yit, nI n, yfd, nI c, ymd, ysa, ytk, nI s.length, nI p, nI b, nI t, nI k, ynx, yra, yrd, yks, yas, ybs, yk, yf, ys, yin, lst, you, vr, yop, ynu, yse, yth)) : P u v := by
  obtain ⟨xit, xln, xrd, xop, xil, cnt, xml, wr, pc, pos, lim, bby, bl, sm, st, tkn, dep, beg, oc, plc, rch, xk, xf, xs, wh, aa, bb, par, ri, rb, rv, oi, os, ot, inp, lst, mad, vr, sav⟩ := u
  obtain ⟨yit, ysz, yfd, yls, ymd, ysa, ytk, ydp, yps, ybt, yst, yus, ynx, yra, yrd, yks, yas, ybs, yk, yf, ys, yin, yli, you, yva, yop, ynu, yse, yth⟩ := v
  obtain ⟨n, B, p, b, t, k, c, s, R, ⟨e1, e2, e3, e4, e5, e6, e7, e8, e9, e10⟩, ⟨f1, f2, f3, f4, f5, f6, f7, f8, f9⟩⟩ := I
  subst e1 e2 e3 e4 e5 e6 e7 e8 e9 e10 f1 f2 f3 f4 f5 f6 f7 f8 f9
  exact h _ _ _ _ _ _ _ _ _ _ _ _ _ _ _ _ _ _ _ _ _ _ _ _ _ _ _ _ _ _ _ _ _ _ _ _ _ _ _ _ _ _ _ _ _ _ _ _ _ n B p b t k c s R
variable {xit xln xrd xop xil cnt xml wr pc pos lim bby bl sm st tkn dep beg oc plc rch : Int32} {xk xf xs wh aa bb par ri rb rv oi os ot inp lst mad vr sav : Nat → Int32} {yit ysz yfd yls ymd ysa ytk ydp yps ybt yst yus ynx yra yrd : Int32} {yks yas ybs yk yf ys yin yli you yva yop ynu yse yth : Nat → Int32} {zit zsz zfd zls zmd zsa ztk zdp zps zbt zst zus znx zra zrd : Int32} {zks zas zbs zk zf zs zin zli zou zva zop znu zse zth : Nat → Int32} {u_xit u_xln u_xrd u_xop u_xil u_cnt u_xml u_wr u_pc u_pos u_lim u_bby u_bl u_sm u_st u_tkn u_dep u_beg u_oc u_plc u_rch : Int32} {u_xk u_xf u_xs u_wh u_aa u_bb u_par u_ri u_rb u_rv u_oi u_os u_ot u_inp u_lst u_mad u_vr u_sav : Nat → Int32}
/-! the reference's loop -/
theorem y50_ok {i n : Nat} (hi : i < n) (hn : n ≤ 40) (Y : ∀ post : Int32 → SY → Prop, post 0 (zit, zsz, zfd, zls, zmd, zsa, ztk, zdp, zps, zbt, zst, zus, znx, zra, zrd, zks, zas, zbs, zk, zf, zs, zin, zli, zou, zva, zop, znu, zse, zth) → (wpY_item post (yit, nI n, yfd, yls, ymd, ysa, ytk, ydp, yps, ybt, yst, yus, nI (i + 1), yps, yrd, yks, yas, ybs, yk, yf, ys, yin, yli, you, yva, yop, ynu, yse, yth) (nI i))) : ∀ (post : Int32 → SY → Prop) (q : Nat), fw_Y50 post q 0 znx (zit, zsz, zfd, zls, zmd, zsa, ztk, zdp, zps, zbt, zst, zus, znx, zra, zrd, zks, zas, zbs, zk, zf, zs, zin, zli, zou, zva, zop, znu, zse, zth) → fw_Y50 post (q + 1) 0 (nI i) (yit, nI n, yfd, yls, ymd, ysa, ytk, ydp, yps, ybt, yst, yus, ynx, yra, yrd, yks, yas, ybs, yk, yf, ys, yin, yli, you, yva, yop, ynu, yse, yth) :=
  fun post q H => br_f (nI_ge hi (by omega)) (br_t rfl (nm_r (nI_1 i) (Y _ (br_t rfl H))))
theorem y50_fail {i n : Nat} {h : Int32} (hi : i < n) (hn : n ≤ 40) (h0 : ¬ h = 0) (Y : ∀ post : Int32 → SY → Prop, post h (zit, zsz, zfd, zls, zmd, zsa, ztk, zdp, zps, zbt, zst, zus, znx, zra, zrd, zks, zas, zbs, zk, zf, zs, zin, zli, zou, zva, zop, znu, zse, zth) → (wpY_item post (yit, nI n, yfd, yls, ymd, ysa, ytk, ydp, yps, ybt, yst, yus, nI (i + 1), yps, yrd, yks, yas, ybs, yk, yf, ys, yin, yli, you, yva, yop, ynu, yse, yth) (nI i))) : ∀ (post : Int32 → SY → Prop) (q : Nat), post h (zit, zsz, zfd, zls, zmd, nI i, zra, zdp, zps, zbt, zst, zus, znx, zra, zrd, zks, zas, zbs, zk, zf, zs, zin, zli, zou, zva, zop, znu, zse, zth) → fw_Y50 post (q + 2) 0 (nI i) (yit, nI n, yfd, yls, ymd, ysa, ytk, ydp, yps, ybt, yst, yus, ynx, yra, yrd, yks, yas, ybs, yk, yf, ys, yin, yli, you, yva, yop, ynu, yse, yth) := by
  intro post q H
  refine br_f (nI_ge hi (by omega)) (br_t rfl (nm_r (nI_1 i) (Y _ (br_f h0 ?_))))
  exact ⟨fun _ => br_f h0 (br_f h0 H), fun _ => br_f h0 (br_f h0 (br_f h0 H))⟩
/-- at the end the reference has nothing more to do -/
theorem x66_fail {u : SX} {h : Int32} (h0 : 0 ≤ h) (X : ∀ (post : SX → Prop) (q : Nat), fw_X66 post q (u_xit, u_xln, u_xrd, u_xop, u_xil, u_cnt, u_xml, u_wr, u_pc, u_pos, u_lim, u_bby, u_bl, u_sm, u_st, u_tkn, u_dep, u_beg, h, u_plc, u_rch, u_xk, u_xf, u_xs, u_wh, u_aa, u_bb, u_par, u_ri, u_rb, u_rv, u_oi, u_os, u_ot, u_inp, u_lst, u_mad, u_vr, u_sav) → fw_X66 post (q + 1) u) : ∀ (post : SX → Prop) (q : Nat), post (u_xit, u_xln, u_xrd, u_xop, u_xil, u_cnt, u_xml, u_wr, u_pc, u_pos, u_lim, u_bby, u_bl, u_sm, u_st, u_tkn, u_dep, u_beg, h, u_plc, u_rch, u_xk, u_xf, u_xs, u_wh, u_aa, u_bb, u_par, u_ri, u_rb, u_rv, u_oi, u_os, u_ot, u_inp, u_lst, u_mad, u_vr, u_sav) → fw_X66 post (q + 2) u :=
  fun post q H => X post (q + 1) (br_t h0 H)
/-- the component does one item, or a run of items -/
theorem x66_d {n B i m p b t k c : Nat} {s : List (Nat × Nat)} (R : (fw_RF n B i m p b t k c s xit xrd xil xml wr bby sm xk xf xs wh aa bb par ri rb rv inp mad sav yit yfd ymd yrd yks yas ybs yk yf ys yin you yop ynu)) :
    (∀ (post : SX → Prop) (q : Nat), (wpX_item (fw_X66 post q) (xit, xln, xrd, xop, xil, nI c, xml, wr, nI i, nI p, nI (fw_LM yk B s), bby, nI b, sm, nI t, nI k, nI (fw_RK yk s), beg, (-1), plc, rch, xk, xf, xs, wh, aa, bb, par, ri, rb, rv, oi, os, ot, inp, lst, mad, vr, sav)) → fw_X66 post (q + 1) (xit, xln, xrd, xop, xil, nI c, xml, wr, nI i, nI p, nI (fw_LM yk B s), bby, nI b, sm, nI t, nI k, nI (fw_RK yk s), beg, (-1), plc, rch, xk, xf, xs, wh, aa, bb, par, ri, rb, rv, oi, os, ot, inp, lst, mad, vr, sav)) ∨
    (b = 0 ∧ ∃ r e v : Nat, ri i = nI r ∧ 2 ≤ r ∧ i + r ≤ n ∧ fw_RO yk yf r i e v ∧ t + r ≤ 400 ∧ p + e ≤ fw_LM yk B s ∧ (wr = 0 → c + v ≤ 40) ∧ (wr = 1 → k + v ≤ c) ∧
      ∀ (post : SX → Prop) (q : Nat), (wpX_fastRun (fw_X66 post q) (xit, xln, xrd, xop, xil, nI c, xml, wr, nI i, nI p, nI (fw_LM yk B s), bby, nI b, sm, nI t, nI k, nI (fw_RK yk s), beg, (-1), plc, rch, xk, xf, xs, wh, aa, bb, par, ri, rb, rv, oi, os, ot, inp, lst, mad, vr, sav)) → fw_X66 post (q + 1) (xit, xln, xrd, xop, xil, nI c, xml, wr, nI i, nI p, nI (fw_LM yk B s), bby, nI b, sm, nI t, nI k, nI (fw_RK yk s), beg, (-1), plc, rch, xk, xf, xs, wh, aa, bb, par, ri, rb, rv, oi, os, ot, inp, lst, mad, vr, sav)) := by
  obtain ⟨_, F, M, D, S, hi, ht, hk, hc, hp, _⟩ := R
  have hn := F.1
  have hB := fw_LM_le S
  have hB' := M.1
  have ci : (nI i).toNatClampNeg = i := nI_clamp (by omega)
  have hpc : vp_in (nI i) 41 := vp_in_nI (by omega) (by decide)
  have I0 : ∀ (post : SX → Prop) (q : Nat), (wpX_item (fw_X66 post q) (xit, xln, xrd, xop, xil, nI c, xml, wr, nI i, nI p, nI (fw_LM yk B s), bby, nI b, sm, nI t, nI k, nI (fw_RK yk s), beg, (-1), plc, rch, xk, xf, xs, wh, aa, bb, par, ri, rb, rv, oi, os, ot, inp, lst, mad, vr, sav)) → (wX_go_154 post (wX_go_66 post q) xit xln xrd xop xil (nI c) xml wr (nI i) (nI p) (nI (fw_LM yk B s)) bby (nI b) sm (nI t) (nI k) (nI (fw_RK yk s)) beg (-1) plc rch xk xf xs wh aa bb par ri rb rv oi os ot inp lst mad vr sav) := fun post q H => br_t rfl H
  by_cases r1 : ri i ≤ 1
  · refine Or.inl (fun post q H => br_f (by decide) (And.intro hpc ?_))
    rw [ci]
    exact br_t r1 (I0 post q H)
  · obtain ⟨r, e, v, er, h2, hr, eb, ev, he, hv, RO⟩ := F.2.2.2.2.2 i hi r1
    by_cases hb : b = 0
    · by_cases h4 : t + r ≤ 400
      · by_cases h5 : p + e ≤ fw_LM yk B s
        · have hw : (wr = 0 ∧ c + v ≤ 40) ∨ (wr = 1 ∧ k + v ≤ c) ∨ (wr = 0 ∧ 40 < c + v) ∨ (wr = 1 ∧ c < k + v) := by
            rcases M.2 with ⟨h, _⟩ | ⟨h, _⟩
            · rcases Nat.lt_or_ge 40 (c + v) with g | g
              · exact Or.inr (Or.inr (Or.inl ⟨h, g⟩))
              · exact Or.inl ⟨h, g⟩
            · rcases Nat.lt_or_ge c (k + v) with g | g
              · exact Or.inr (Or.inr (Or.inr ⟨h, g⟩))
              · exact Or.inr (Or.inl ⟨h, g⟩)
          have G : ∀ (post : SX → Prop) (q : Nat), (wpX_roomFor (fun r_92 => (r_92 = 0 → (wX_go_154 post (wX_go_66 post q) xit xln xrd xop xil (nI c) xml wr (nI i) (nI p) (nI (fw_LM yk B s)) bby (nI b) sm (nI t) (nI k) (nI (fw_RK yk s)) beg (-1) plc rch xk xf xs wh aa bb par ri rb rv oi os ot inp lst mad vr sav)) ∧ (¬ r_92 = 0 → (wX_go_155 post (wX_go_66 post q) 1 xit xln xrd xop xil (nI c) xml wr (nI i) (nI p) (nI (fw_LM yk B s)) bby (nI b) sm (nI t) (nI k) (nI (fw_RK yk s)) beg (-1) plc rch xk xf xs wh aa bb par ri rb rv oi os ot inp lst mad vr sav))) (xit, xln, xrd, xop, xil, nI c, xml, wr, nI i, nI p, nI (fw_LM yk B s), bby, nI b, sm, nI t, nI k, nI (fw_RK yk s), beg, (-1), plc, rch, xk, xf, xs, wh, aa, bb, par, ri, rb, rv, oi, os, ot, inp, lst, mad, vr, sav) (nI v)) → fw_X66 post (q + 1) (xit, xln, xrd, xop, xil, nI c, xml, wr, nI i, nI p, nI (fw_LM yk B s), bby, nI b, sm, nI t, nI k, nI (fw_RK yk s), beg, (-1), plc, rch, xk, xf, xs, wh, aa, bb, par, ri, rb, rv, oi, os, ot, inp, lst, mad, vr, sav) := by
            intro post q H
            refine br_f (by decide) (And.intro hpc ?_)
            rw [ci]
            refine br_f r1 ?_
            subst hb
            refine br_t rfl (And.intro hpc ?_)
            rw [er, eb, ev, nI_add, nI_add]
            exact br_f (nI_nlt (a := 400) h4 (by decide)) (And.intro hpc (br_f (nI_nlt h5 (by omega)) (And.intro hpc H)))
          rcases hw with ⟨rfl, g⟩ | ⟨rfl, g⟩ | ⟨rfl, g⟩ | ⟨rfl, g⟩
          · refine Or.inr ⟨hb, r, e, v, er, h2, hr, RO, h4, h5, fun _ => g, fun z => absurd z (by decide), fun post q H => G post q (br_t rfl ?_)⟩
            rw [nI_add]
            exact br_f (nI_nlt (a := 40) g (by decide)) (br_f (by decide) (br_f (by decide) H))
          · refine Or.inr ⟨hb, r, e, v, er, h2, hr, RO, h4, h5, fun z => absurd z (by decide), fun _ => g, fun post q H => G post q (br_f (by decide) ?_)⟩
            rw [nI_add]
            exact br_f (nI_nlt g (by omega)) (br_f (by decide) (br_f (by decide) H))
          · refine Or.inl (fun post q H => G post q (br_t rfl ?_))
            rw [nI_add]
            exact br_t (nI_lt (a := 40) g (by omega)) (br_t rfl (I0 post q H))
          · refine Or.inl (fun post q H => G post q (br_f (by decide) ?_))
            rw [nI_add]
            exact br_t (nI_lt g (by omega)) (br_t rfl (I0 post q H))
        · refine Or.inl (fun post q H => br_f (by decide) (And.intro hpc ?_))
          rw [ci]
          refine br_f r1 ?_
          subst hb
          refine br_t rfl (And.intro hpc ?_)
          rw [er, eb, nI_add, nI_add]
          exact br_f (nI_nlt (a := 400) h4 (by decide)) (And.intro hpc (br_t (nI_lt (by omega) (by omega)) (I0 post q H)))
      · refine Or.inl (fun post q H => br_f (by decide) (And.intro hpc ?_))
        rw [ci]
        refine br_f r1 ?_
        subst hb
        refine br_t rfl (And.intro hpc ?_)
        rw [er, nI_add]
        exact br_t (nI_lt (a := 400) (by omega) (by omega)) (I0 post q H)
    · refine Or.inl (fun post q H => br_f (by decide) (And.intro hpc ?_))
      rw [ci]
      refine br_f r1 (br_f ?_ (I0 post q H))
      exact nI_ne0 (by omega) (by have := D.1; omega)
end
section
/-! a step's outcome, put together; the ways into an item -/
variable {xit xln xrd xop xil cnt xml wr pc pos lim bby bl sm st tkn dep beg oc plc rch : Int32} {xk xf xs wh aa bb par ri rb rv oi os ot inp lst mad vr sav : Nat → Int32} {yit ysz yfd yls ymd ysa ytk ydp yps ybt yst yus ynx yra yrd : Int32} {yks yas ybs yk yf ys yin yli you yva yop ynu yse yth : Nat → Int32}
/-- a step that goes on -/
theorem st_go {n B i m p b t k c : Nat} {s : List (Nat × Nat)} (R : (fw_RF n B i m p b t k c s xit xrd xil xml wr bby sm xk xf xs wh aa bb par ri rb rv inp mad sav yit yfd ymd yrd yks yas ybs yk yf ys yin you yop ynu)) {i' p' b' t' k' c' q0 : Nat} {s' : List (Nat × Nat)} {bby' sm' beg' ynx' yra' : Int32} {lst' vr' mad' sav' you' yop' ynu' : Nat → Int32}
    (D' : (fw_DP wr xml ymd p' b' bby' sm' inp mad' yin you')) (S' : fw_SK yk B yop' ynu' sav' s' (fw_st yk i')) (hi' : i' ≤ n) (ht' : t' ≤ 400) (hk' : k' ≤ c') (hc' : c' ≤ 40) (hp' : p' ≤ fw_LM yk B s') (hq : 1 ≤ q0) (hm : fw_ms n i' t' yk s' + q0 ≤ fw_ms n i t yk s)
    (X : ∀ (post : SX → Prop) (q : Nat), fw_X66 post q (xit, xln, xrd, xop, xil, nI c', xml, wr, nI i', nI p', nI (fw_LM yk B s'), bby', nI b', sm', nI t', nI k', nI (fw_RK yk s'), beg', (-1), plc, rch, xk, xf, xs, wh, aa, bb, par, ri, rb, rv, oi, os, ot, inp, lst', mad', vr', sav') → fw_X66 post (q + 1) (xit, xln, xrd, xop, xil, nI c, xml, wr, nI i, nI p, nI (fw_LM yk B s), bby, nI b, sm, nI t, nI k, nI (fw_RK yk s), beg, (-1), plc, rch, xk, xf, xs, wh, aa, bb, par, ri, rb, rv, oi, os, ot, inp, lst, mad, vr, sav))
    (Y : ∀ (post : Int32 → SY → Prop) (q : Nat), fw_Y50 post q 0 (nI i') (yit, nI n, yfd, nI c', ymd, ysa, ytk, nI s'.length, nI p', nI b', nI t', nI k', ynx', yra', yrd, yks, yas, ybs, yk, yf, ys, yin, lst', you', vr', yop', ynu', yse, yth) → fw_Y50 post (q + q0) 0 (nI i) (yit, nI n, yfd, nI c, ymd, ysa, ytk, nI s.length, nI p, nI b, nI t, nI k, ynx, yra, yrd, yks, yas, ybs, yk, yf, ys, yin, lst, you, vr, yop, ynu, yse, yth)) :
    fw_ST wr i m (xit, xln, xrd, xop, xil, nI c, xml, wr, nI i, nI p, nI (fw_LM yk B s), bby, nI b, sm, nI t, nI k, nI (fw_RK yk s), beg, (-1), plc, rch, xk, xf, xs, wh, aa, bb, par, ri, rb, rv, oi, os, ot, inp, lst, mad, vr, sav) (yit, nI n, yfd, nI c, ymd, ysa, ytk, nI s.length, nI p, nI b, nI t, nI k, ynx, yra, yrd, yks, yas, ybs, yk, yf, ys, yin, lst, you, vr, yop, ynu, yse, yth) := by
  obtain ⟨T, F, M, D, S, hi, ht, hk, hc, hp, em⟩ := R
  refine Or.inl ⟨i', fw_ms n i' t' yk s', q0, _, _, hq, by rw [em]; exact hm, ?_, X, Y⟩
  exact ⟨n, B, p', b', t', k', c', s', ⟨T, F, M, D', S', hi', ht', hk', hc', hp', rfl⟩, ⟨rfl, rfl, rfl, rfl, rfl, rfl, rfl, rfl, rfl, rfl⟩, ⟨rfl, rfl, rfl, rfl, rfl, rfl, rfl, rfl, rfl⟩⟩
/-- an item that ends the run -/
theorem st_fail {n B i m p b t k c : Nat} {s : List (Nat × Nat)} (R : (fw_RF n B i m p b t k c s xit xrd xil xml wr bby sm xk xf xs wh aa bb par ri rb rv inp mad sav yit yfd ymd yrd yks yas ybs yk yf ys yin you yop ynu)) (hi : i < n) (XI : ∀ (post : SX → Prop) (q : Nat), (wpX_item (fw_X66 post q) (xit, xln, xrd, xop, xil, nI c, xml, wr, nI i, nI p, nI (fw_LM yk B s), bby, nI b, sm, nI t, nI k, nI (fw_RK yk s), beg, (-1), plc, rch, xk, xf, xs, wh, aa, bb, par, ri, rb, rv, oi, os, ot, inp, lst, mad, vr, sav)) → fw_X66 post (q + 1) (xit, xln, xrd, xop, xil, nI c, xml, wr, nI i, nI p, nI (fw_LM yk B s), bby, nI b, sm, nI t, nI k, nI (fw_RK yk s), beg, (-1), plc, rch, xk, xf, xs, wh, aa, bb, par, ri, rb, rv, oi, os, ot, inp, lst, mad, vr, sav)) {h : Int32} (h0 : ¬ h = 0) (h1 : 0 ≤ h)
    {p' b' : Nat} {bbyq smq pos' bl' bby' sm' st' yps' ybt' yst' ynx' : Int32} {mad' : Nat → Int32} (D' : (fw_DP wr xml ymd p' b' bbyq smq inp mad' yin you)) (W : wr = 1 → pos' = nI p' ∧ yps' = nI p' ∧ bl' = nI b' ∧ ybt' = nI b')
    (X : ∀ post : SX → Prop, post (xit, xln, xrd, xop, xil, nI c, xml, wr, nI i, pos', nI (fw_LM yk B s), bby', bl', sm', st', nI k, nI (fw_RK yk s), nI p, h, nI i, nI p, xk, xf, xs, wh, aa, bb, par, ri, rb, rv, oi, os, ot, inp, lst, mad', vr, sav) → (wpX_item post (xit, xln, xrd, xop, xil, nI c, xml, wr, nI i, nI p, nI (fw_LM yk B s), bby, nI b, sm, nI t, nI k, nI (fw_RK yk s), beg, (-1), plc, rch, xk, xf, xs, wh, aa, bb, par, ri, rb, rv, oi, os, ot, inp, lst, mad, vr, sav)))
    (Y : ∀ post : Int32 → SY → Prop, post h (yit, nI n, yfd, nI c, ymd, ysa, ytk, nI s.length, yps', ybt', yst', nI k, ynx', nI p, yrd, yks, yas, ybs, yk, yf, ys, yin, lst, you, vr, yop, ynu, yse, yth) → (wpY_item post (yit, nI n, yfd, nI c, ymd, ysa, ytk, nI s.length, nI p, nI b, nI t, nI k, nI (i + 1), nI p, yrd, yks, yas, ybs, yk, yf, ys, yin, lst, you, vr, yop, ynu, yse, yth) (nI i))) :
    fw_ST wr i m (xit, xln, xrd, xop, xil, nI c, xml, wr, nI i, nI p, nI (fw_LM yk B s), bby, nI b, sm, nI t, nI k, nI (fw_RK yk s), beg, (-1), plc, rch, xk, xf, xs, wh, aa, bb, par, ri, rb, rv, oi, os, ot, inp, lst, mad, vr, sav) (yit, nI n, yfd, nI c, ymd, ysa, ytk, nI s.length, nI p, nI b, nI t, nI k, ynx, yra, yrd, yks, yas, ybs, yk, yf, ys, yin, lst, you, vr, yop, ynu, yse, yth) := by
  obtain ⟨T, F, M, D, S, _, ht, hk, hc, hp, em⟩ := R
  refine Or.inr ⟨h, _, _, 2, by rw [em]; unfold fw_ms; omega, ?_, x66_fail h1 (fun post q H => XI post q (X _ H)), y50_fail hi F.1 h0 Y⟩
  refine ⟨n, c, T, F, D'.2.2.2.1, hc, rfl, rfl, rfl, rfl, rfl, rfl, rfl, rfl, rfl, ?_⟩
  obtain ⟨d1, d2, d3, d4, ⟨w, e1, e2, e3⟩ | ⟨w, e1, e2, e3⟩⟩ := D'
  · exact Or.inl ⟨w, e3⟩
  · obtain ⟨a1, a2, a3, a4⟩ := W w
    exact Or.inr ⟨w, p', b', a1, a2, a3, a4, d2, d1, d3, e3⟩
theorem fw_ms1 {n i t : Nat} {yk : Nat → Int32} {s : List (Nat × Nat)} (hi : i < n) (ht : t < 400) : fw_ms n (i + 1) (t + 1) yk s + 1 ≤ fw_ms n i t yk s := by
  unfold fw_ms; omega
/-- an item that goes on at the next one -/
theorem st_data {n B i m p b t k c : Nat} {s : List (Nat × Nat)} (R : (fw_RF n B i m p b t k c s xit xrd xil xml wr bby sm xk xf xs wh aa bb par ri rb rv inp mad sav yit yfd ymd yrd yks yas ybs yk yf ys yin you yop ynu)) (hi : i < n) (ht : t < 400) (XI : ∀ (post : SX → Prop) (q : Nat), (wpX_item (fw_X66 post q) (xit, xln, xrd, xop, xil, nI c, xml, wr, nI i, nI p, nI (fw_LM yk B s), bby, nI b, sm, nI t, nI k, nI (fw_RK yk s), beg, (-1), plc, rch, xk, xf, xs, wh, aa, bb, par, ri, rb, rv, oi, os, ot, inp, lst, mad, vr, sav)) → fw_X66 post (q + 1) (xit, xln, xrd, xop, xil, nI c, xml, wr, nI i, nI p, nI (fw_LM yk B s), bby, nI b, sm, nI t, nI k, nI (fw_RK yk s), beg, (-1), plc, rch, xk, xf, xs, wh, aa, bb, par, ri, rb, rv, oi, os, ot, inp, lst, mad, vr, sav)) (es : fw_st yk (i + 1) = fw_st yk i)
    {p' b' k' c' : Nat} {bby' sm' : Int32} {lst' vr' mad' you' : Nat → Int32} (D' : (fw_DP wr xml ymd p' b' bby' sm' inp mad' yin you')) (hp' : p' ≤ fw_LM yk B s) (hk' : k' ≤ c') (hc' : c' ≤ 40)
    (X : ∀ post : SX → Prop, post (xit, xln, xrd, xop, xil, nI c', xml, wr, nI (i + 1), nI p', nI (fw_LM yk B s), bby', nI b', sm', nI (t + 1), nI k', nI (fw_RK yk s), nI p, (-1), plc, rch, xk, xf, xs, wh, aa, bb, par, ri, rb, rv, oi, os, ot, inp, lst', mad', vr', sav) → (wpX_item post (xit, xln, xrd, xop, xil, nI c, xml, wr, nI i, nI p, nI (fw_LM yk B s), bby, nI b, sm, nI t, nI k, nI (fw_RK yk s), beg, (-1), plc, rch, xk, xf, xs, wh, aa, bb, par, ri, rb, rv, oi, os, ot, inp, lst, mad, vr, sav)))
    (Y : ∀ post : Int32 → SY → Prop, post 0 (yit, nI n, yfd, nI c', ymd, ysa, ytk, nI s.length, nI p', nI b', nI (t + 1), nI k', nI (i + 1), nI p, yrd, yks, yas, ybs, yk, yf, ys, yin, lst', you', vr', yop, ynu, yse, yth) → (wpY_item post (yit, nI n, yfd, nI c, ymd, ysa, ytk, nI s.length, nI p, nI b, nI t, nI k, nI (i + 1), nI p, yrd, yks, yas, ybs, yk, yf, ys, yin, lst, you, vr, yop, ynu, yse, yth) (nI i))) :
    fw_ST wr i m (xit, xln, xrd, xop, xil, nI c, xml, wr, nI i, nI p, nI (fw_LM yk B s), bby, nI b, sm, nI t, nI k, nI (fw_RK yk s), beg, (-1), plc, rch, xk, xf, xs, wh, aa, bb, par, ri, rb, rv, oi, os, ot, inp, lst, mad, vr, sav) (yit, nI n, yfd, nI c, ymd, ysa, ytk, nI s.length, nI p, nI b, nI t, nI k, ynx, yra, yrd, yks, yas, ybs, yk, yf, ys, yin, lst, you, vr, yop, ynu, yse, yth) :=
  st_go R D' (by rw [es]; exact R.2.2.2.2.1) hi (by omega) hk' hc' hp' (Nat.le_refl 1) (fw_ms1 hi ht) (fun post q H => XI post q (X _ H)) (y50_ok hi R.2.1.1 Y)
/-! the component's item -/
theorem fw_400 {t : Nat} (h : t < 400) : ¬ nI t = 400 := by
  rw [show (400 : Int32) = nI 400 from rfl, nI_eq (by omega) (by omega)]; omega
theorem fw_40 {c : Nat} (h : c < 40) : ¬ nI c = 40 := by
  rw [show (40 : Int32) = nI 40 from rfl, nI_eq (by omega) (by omega)]; omega
theorem xi_cl {post : SX → Prop} {i p t c : Nat} {kk : Int32} (hk : kk = 0 ∨ kk = 1 ∨ kk = 3 ∨ kk = 6 ∨ kk = 7 ∨ kk = 8) (hw : wh i = kk) (hi : i < 41) (ht : t < 400) (hc : kk = 0 ∨ kk = 1 → wr = 0 → c < 40)
    (H : (wpX_closeBits (fw_X143 post kk) (xit, xln, xrd, xop, xil, nI c, xml, wr, nI i, nI p, lim, bby, bl, sm, nI (t + 1), tkn, dep, nI p, oc, plc, rch, xk, xf, xs, wh, aa, bb, par, ri, rb, rv, oi, os, ot, inp, lst, mad, vr, sav))) : (wpX_item post (xit, xln, xrd, xop, xil, nI c, xml, wr, nI i, nI p, lim, bby, bl, sm, nI t, tkn, dep, beg, oc, plc, rch, xk, xf, xs, wh, aa, bb, par, ri, rb, rv, oi, os, ot, inp, lst, mad, vr, sav)) := by
  refine And.intro (vp_in_nI hi (by decide)) (nm_r (e' := kk) (by rw [nI_clamp (by omega)]; exact hw) ?_)
  have G : (wX_item_129 post kk xit xln xrd xop xil (nI c) xml wr (nI i) (nI p) lim bby bl sm (nI (t + 1)) tkn dep (nI p) oc plc rch xk xf xs wh aa bb par ri rb rv oi os ot inp lst mad vr sav) := br_f (by decide) H
  rcases hk with rfl | rfl | rfl | rfl | rfl | rfl
  · exact br_f (by decide) (nm_r (nI_1 t) (br_f (fw_400 ht) (br_f (by decide) (br_c (fun z => br_f (fw_40 (hc (Or.inl rfl) z)) (br_t (by decide) G)) (fun z => br_t (by decide) G)))))
  · exact br_f (by decide) (nm_r (nI_1 t) (br_f (fw_400 ht) (br_f (by decide) (br_c (fun z => br_f (fw_40 (hc (Or.inr rfl) z)) (br_t (by decide) G)) (fun z => br_t (by decide) G)))))
  · exact br_f (by decide) (nm_r (nI_1 t) (br_f (fw_400 ht) (br_t (by decide) (br_f (by decide) (br_t (by decide) G)))))
  · exact br_f (by decide) (nm_r (nI_1 t) (br_f (fw_400 ht) (br_t (by decide) (br_f (by decide) (br_f (by decide) (br_f (by decide) (br_t (by decide) G)))))))
  · exact br_f (by decide) (nm_r (nI_1 t) (br_f (fw_400 ht) (br_t (by decide) (br_f (by decide) (br_f (by decide) (br_f (by decide) (br_t (by decide) G)))))))
  · exact br_f (by decide) (nm_r (nI_1 t) (br_f (fw_400 ht) (br_t (by decide) (br_f (by decide) (br_f (by decide) (br_f (by decide) (br_t (by decide) G)))))))
theorem xi_nc {post : SX → Prop} {i p t c : Nat} {kk : Int32} (hk : kk = 2 ∨ kk = 4 ∨ kk = 5 ∨ kk = 9 ∨ kk = 10 ∨ kk = 11) (hw : wh i = kk) (hi : i < 41) (ht : t < 400) (hc : kk = 2 → wr = 0 → c < 40)
    (H : fw_X143 post kk (xit, xln, xrd, xop, xil, nI c, xml, wr, nI i, nI p, lim, bby, bl, sm, nI (t + 1), tkn, dep, nI p, oc, plc, rch, xk, xf, xs, wh, aa, bb, par, ri, rb, rv, oi, os, ot, inp, lst, mad, vr, sav)) : (wpX_item post (xit, xln, xrd, xop, xil, nI c, xml, wr, nI i, nI p, lim, bby, bl, sm, nI t, tkn, dep, beg, oc, plc, rch, xk, xf, xs, wh, aa, bb, par, ri, rb, rv, oi, os, ot, inp, lst, mad, vr, sav)) := by
  refine And.intro (vp_in_nI hi (by decide)) (nm_r (e' := kk) (by rw [nI_clamp (by omega)]; exact hw) ?_)
  have G : (wX_item_133 post kk xit xln xrd xop xil (nI c) xml wr (nI i) (nI p) lim bby bl sm (nI (t + 1)) tkn dep (nI p) oc plc rch xk xf xs wh aa bb par ri rb rv oi os ot inp lst mad vr sav) := br_t rfl H
  have G2 : kk = 2 ∨ kk = 4 ∨ kk = 5 ∨ kk = 9 ∨ kk = 10 ∨ kk = 11 → (wX_item_98 post kk xit xln xrd xop xil (nI c) xml wr (nI i) (nI p) lim bby bl sm (nI (t + 1)) tkn dep (nI p) oc plc rch xk xf xs wh aa bb par ri rb rv oi os ot inp lst mad vr sav) := by
    intro h
    rcases h with rfl | rfl | rfl | rfl | rfl | rfl <;> exact br_f (by decide) (br_f (by decide) G)
  have G3 := G2 hk
  rcases hk with rfl | rfl | rfl | rfl | rfl | rfl
  · exact br_f (by decide) (nm_r (nI_1 t) (br_f (fw_400 ht) (br_f (by decide) (br_c (fun z => br_f (fw_40 (hc rfl z)) (br_f (by decide) (br_f (by decide) (br_t (by decide) G3)))) (fun z => br_f (by decide) (br_f (by decide) (br_t (by decide) G3)))))))
  · exact br_f (by decide) (nm_r (nI_1 t) (br_f (fw_400 ht) (br_t (by decide) (br_f (by decide) (br_f (by decide) (br_t (by decide) G3))))))
  · exact br_f (by decide) (nm_r (nI_1 t) (br_f (fw_400 ht) (br_t (by decide) (br_f (by decide) (br_f (by decide) (br_t (by decide) G3))))))
  · exact br_f (by decide) (nm_r (nI_1 t) (br_f (fw_400 ht) (br_t (by decide) (br_f (by decide) (br_f (by decide) (br_f (by decide) (br_f (by decide) G3)))))))
  · exact br_f (by decide) (nm_r (nI_1 t) (br_f (fw_400 ht) (br_t (by decide) (br_f (by decide) (br_f (by decide) (br_f (by decide) (br_f (by decide) G3)))))))
  · exact br_f (by decide) (nm_r (nI_1 t) (br_f (fw_400 ht) (br_t (by decide) (br_f (by decide) (br_f (by decide) (br_f (by decide) (br_f (by decide) G3)))))))
theorem xi_12 {post : SX → Prop} {i p : Nat} (hw : wh i = 12) (hi : i < 41) (H : fw_X143 post 12 (xit, xln, xrd, xop, xil, cnt, xml, wr, nI i, nI p, lim, bby, bl, sm, st, tkn, dep, nI p, oc, plc, rch, xk, xf, xs, wh, aa, bb, par, ri, rb, rv, oi, os, ot, inp, lst, mad, vr, sav)) : (wpX_item post (xit, xln, xrd, xop, xil, cnt, xml, wr, nI i, nI p, lim, bby, bl, sm, st, tkn, dep, beg, oc, plc, rch, xk, xf, xs, wh, aa, bb, par, ri, rb, rv, oi, os, ot, inp, lst, mad, vr, sav)) := by
  refine And.intro (vp_in_nI hi (by decide)) (nm_r (e' := 12) (by rw [nI_clamp (by omega)]; exact hw) ?_)
  exact br_t (by decide) (br_t (by decide) (br_f (by decide) (br_f (by decide) (br_f (by decide) (br_f (by decide) (br_f (by decide) (br_f (by decide) (br_t rfl H))))))))
theorem xi_13 {post : SX → Prop} {i p o : Nat} (hw : wh i = 13) (hi : i < 41) (ho : o < 41) (hpo : par i = nI o)
    (H6 : wh o = 6 → (wpX_closeBits (fw_X143 post 13) (xit, xln, xrd, xop, xil, cnt, xml, wr, nI i, nI p, lim, bby, bl, sm, st, tkn, dep, nI p, oc, plc, rch, xk, xf, xs, wh, aa, bb, par, ri, rb, rv, oi, os, ot, inp, lst, mad, vr, sav))) (H : ¬ wh o = 6 → fw_X143 post 13 (xit, xln, xrd, xop, xil, cnt, xml, wr, nI i, nI p, lim, bby, bl, sm, st, tkn, dep, nI p, oc, plc, rch, xk, xf, xs, wh, aa, bb, par, ri, rb, rv, oi, os, ot, inp, lst, mad, vr, sav)) : (wpX_item post (xit, xln, xrd, xop, xil, cnt, xml, wr, nI i, nI p, lim, bby, bl, sm, st, tkn, dep, beg, oc, plc, rch, xk, xf, xs, wh, aa, bb, par, ri, rb, rv, oi, os, ot, inp, lst, mad, vr, sav)) := by
  refine And.intro (vp_in_nI hi (by decide)) (nm_r (e' := 13) (by rw [nI_clamp (by omega)]; exact hw) ?_)
  refine br_t (by decide) (br_t (by decide) (br_f (by decide) (br_f (by decide) (br_f (by decide) (br_f (by decide) (br_f (by decide) (br_t rfl (And.intro (vp_in_nI hi (by decide)) ?_))))))))
  rw [nI_clamp (n := i) (by omega), hpo, nI_clamp (n := o) (by omega)]
  exact And.intro (vp_in_nI ho (by decide)) ⟨fun z => br_f (by decide) (H6 z), fun z => br_t rfl (H z)⟩
theorem xi_14 {post : SX → Prop} {i p : Nat} (hw : wh i = 14) (hi : i < 41) (H : (wpX_closeBits (fw_X143 post 14) (xit, xln, xrd, xop, xil, cnt, xml, wr, nI i, nI p, lim, bby, bl, sm, st, tkn, dep, nI p, oc, plc, rch, xk, xf, xs, wh, aa, bb, par, ri, rb, rv, oi, os, ot, inp, lst, mad, vr, sav))) : (wpX_item post (xit, xln, xrd, xop, xil, cnt, xml, wr, nI i, nI p, lim, bby, bl, sm, st, tkn, dep, beg, oc, plc, rch, xk, xf, xs, wh, aa, bb, par, ri, rb, rv, oi, os, ot, inp, lst, mad, vr, sav)) := by
  refine And.intro (vp_in_nI hi (by decide)) (nm_r (e' := 14) (by rw [nI_clamp (by omega)]; exact hw) ?_)
  exact br_t (by decide) (br_t (by decide) (br_f (by decide) (br_f (by decide) (br_f (by decide) (br_f (by decide) (br_t rfl (br_f (by decide) H)))))))
theorem xi_many {post : SX → Prop} {i p : Nat} {kk : Int32} (h12 : ¬ 12 ≤ kk) (hw : wh i = kk) (hi : i < 41) (H : post (xit, xln, xrd, xop, xil, cnt, xml, wr, nI i, nI p, lim, bby, bl, sm, nI 401, tkn, dep, nI p, 8, nI i, nI p, xk, xf, xs, wh, aa, bb, par, ri, rb, rv, oi, os, ot, inp, lst, mad, vr, sav)) : (wpX_item post (xit, xln, xrd, xop, xil, cnt, xml, wr, nI i, nI p, lim, bby, bl, sm, nI 400, tkn, dep, beg, oc, plc, rch, xk, xf, xs, wh, aa, bb, par, ri, rb, rv, oi, os, ot, inp, lst, mad, vr, sav)) :=
  And.intro (vp_in_nI hi (by decide)) (nm_r (e' := kk) (by rw [nI_clamp (by omega)]; exact hw) (br_f h12 (nm_r (nI_1 400) (br_t rfl (xx_end (by decide) H)))))
theorem xi_many2 {post : SX → Prop} {i p t : Nat} {kk : Int32} (h12 : ¬ 12 ≤ kk) (h3 : ¬ 3 ≤ kk) (hw : wh i = kk) (hi : i < 41) (ht : t < 400) (H : post (xit, xln, xrd, xop, xil, nI 40, xml, 0, nI i, nI p, lim, bby, bl, sm, nI (t + 1), tkn, dep, nI p, 8, nI i, nI p, xk, xf, xs, wh, aa, bb, par, ri, rb, rv, oi, os, ot, inp, lst, mad, vr, sav)) : (wpX_item post (xit, xln, xrd, xop, xil, nI 40, xml, 0, nI i, nI p, lim, bby, bl, sm, nI t, tkn, dep, beg, oc, plc, rch, xk, xf, xs, wh, aa, bb, par, ri, rb, rv, oi, os, ot, inp, lst, mad, vr, sav)) :=
  And.intro (vp_in_nI hi (by decide)) (nm_r (e' := kk) (by rw [nI_clamp (by omega)]; exact hw) (br_f h12 (nm_r (nI_1 t) (br_f (fw_400 ht) (br_f h3 (br_t rfl (br_t rfl (xx_end (by decide) H))))))))
/-! the reference's item -/
def fw_Yc (post : Int32 → SY → Prop) (x1 x2 : Int32) (r : Int32) (v : SY) : Prop := match v with
  | (yit, ysz, yfd, yls, ymd, ysa, ytk, ydp, yps, ybt, yst, yus, ynx, yra, yrd, yks, yas, ybs, yk, yf, ys, yin, yli, you, yva, yop, ynu, yse, yth) => (r = 0 → (wY_item_113 post x1 x2 yit ysz yfd yls ymd ysa ytk ydp yps ybt yst yus ynx yra yrd yks yas ybs yk yf ys yin yli you yva yop ynu yse yth)) ∧ (¬ r = 0 → post r (yit, ysz, yfd, yls, ymd, ysa, ytk, ydp, yps, ybt, yst, yus, ynx, yra, yrd, yks, yas, ybs, yk, yf, ys, yin, yli, you, yva, yop, ynu, yse, yth))
theorem yi_cl {post : Int32 → SY → Prop} {i t c : Nat} {kk : Int32} (hk : kk = 0 ∨ kk = 1 ∨ kk = 3 ∨ kk = 6 ∨ kk = 7 ∨ kk = 8) (hw : yk i = kk) (hi : i < 40) (ht : t < 400) (hc : kk = 0 ∨ kk = 1 → ¬ yrd = 0 → c < 40)
    (H : (wpY_close (fw_Yc post (nI i) kk) (yit, ysz, yfd, nI c, ymd, ysa, ytk, ydp, yps, ybt, nI (t + 1), yus, ynx, yra, yrd, yks, yas, ybs, yk, yf, ys, yin, yli, you, yva, yop, ynu, yse, yth))) : (wpY_item post (yit, ysz, yfd, nI c, ymd, ysa, ytk, ydp, yps, ybt, nI t, yus, ynx, yra, yrd, yks, yas, ybs, yk, yf, ys, yin, yli, you, yva, yop, ynu, yse, yth) (nI i)) := by
  refine And.intro (vp_in_nI hi (by decide)) (nm_r (e' := kk) (by rw [nI_clamp (by omega)]; exact hw) ?_)
  rcases hk with rfl | rfl | rfl | rfl | rfl | rfl
  · have G : (wY_item_70 post (nI i) 0 yit ysz yfd (nI c) ymd ysa ytk ydp yps ybt (nI t) yus ynx yra yrd yks yas ybs yk yf ys yin yli you yva yop ynu yse yth) := nm_r (nI_1 t) (br_t (by decide) H)
    exact br_f (by decide) (br_f (by decide) (br_f (fw_400 ht) (br_c (fun z => G) (fun z => br_f (by decide) (br_f (fw_40 (hc (Or.inl rfl) z)) G)))))
  · have G : (wY_item_70 post (nI i) 1 yit ysz yfd (nI c) ymd ysa ytk ydp yps ybt (nI t) yus ynx yra yrd yks yas ybs yk yf ys yin yli you yva yop ynu yse yth) := nm_r (nI_1 t) (br_t (by decide) H)
    exact br_f (by decide) (br_f (by decide) (br_f (fw_400 ht) (br_c (fun z => G) (fun z => br_f (by decide) (br_f (fw_40 (hc (Or.inr rfl) z)) G)))))
  · have G : (wY_item_70 post (nI i) 3 yit ysz yfd (nI c) ymd ysa ytk ydp yps ybt (nI t) yus ynx yra yrd yks yas ybs yk yf ys yin yli you yva yop ynu yse yth) := nm_r (nI_1 t) (br_f (by decide) (br_t rfl H))
    exact br_f (by decide) (br_f (by decide) (br_f (fw_400 ht) (br_c (fun z => G) (fun z => br_t (by decide) G))))
  · have G : (wY_item_70 post (nI i) 6 yit ysz yfd (nI c) ymd ysa ytk ydp yps ybt (nI t) yus ynx yra yrd yks yas ybs yk yf ys yin yli you yva yop ynu yse yth) := nm_r (nI_1 t) (br_f (by decide) (br_f (by decide) (br_f (by decide) (br_f (by decide) H))))
    exact br_f (by decide) (br_f (by decide) (br_f (fw_400 ht) (br_c (fun z => G) (fun z => br_t (by decide) G))))
  · have G : (wY_item_70 post (nI i) 7 yit ysz yfd (nI c) ymd ysa ytk ydp yps ybt (nI t) yus ynx yra yrd yks yas ybs yk yf ys yin yli you yva yop ynu yse yth) := nm_r (nI_1 t) (br_f (by decide) (br_f (by decide) (br_f (by decide) (br_f (by decide) H))))
    exact br_f (by decide) (br_f (by decide) (br_f (fw_400 ht) (br_c (fun z => G) (fun z => br_t (by decide) G))))
  · have G : (wY_item_70 post (nI i) 8 yit ysz yfd (nI c) ymd ysa ytk ydp yps ybt (nI t) yus ynx yra yrd yks yas ybs yk yf ys yin yli you yva yop ynu yse yth) := nm_r (nI_1 t) (br_f (by decide) (br_f (by decide) (br_f (by decide) (br_f (by decide) H))))
    exact br_f (by decide) (br_f (by decide) (br_f (fw_400 ht) (br_c (fun z => G) (fun z => br_t (by decide) G))))
theorem yi_nc {post : Int32 → SY → Prop} {i t c : Nat} {kk : Int32} (hk : kk = 2 ∨ kk = 4 ∨ kk = 5 ∨ kk = 9 ∨ kk = 10 ∨ kk = 11) (hw : yk i = kk) (hi : i < 40) (ht : t < 400) (hc : kk = 2 → ¬ yrd = 0 → c < 40)
    (H : fw_Y113 post (nI i) kk (yit, ysz, yfd, nI c, ymd, ysa, ytk, ydp, yps, ybt, nI (t + 1), yus, ynx, yra, yrd, yks, yas, ybs, yk, yf, ys, yin, yli, you, yva, yop, ynu, yse, yth)) : (wpY_item post (yit, ysz, yfd, nI c, ymd, ysa, ytk, ydp, yps, ybt, nI t, yus, ynx, yra, yrd, yks, yas, ybs, yk, yf, ys, yin, yli, you, yva, yop, ynu, yse, yth) (nI i)) := by
  refine And.intro (vp_in_nI hi (by decide)) (nm_r (e' := kk) (by rw [nI_clamp (by omega)]; exact hw) ?_)
  rcases hk with rfl | rfl | rfl | rfl | rfl | rfl
  · have G : (wY_item_70 post (nI i) 2 yit ysz yfd (nI c) ymd ysa ytk ydp yps ybt (nI t) yus ynx yra yrd yks yas ybs yk yf ys yin yli you yva yop ynu yse yth) := nm_r (nI_1 t) (br_f (by decide) (br_f (by decide) (br_t (by decide) H)))
    exact br_f (by decide) (br_f (by decide) (br_f (fw_400 ht) (br_c (fun z => G) (fun z => br_f (by decide) (br_f (fw_40 (hc rfl z)) G)))))
  · have G : (wY_item_70 post (nI i) 4 yit ysz yfd (nI c) ymd ysa ytk ydp yps ybt (nI t) yus ynx yra yrd yks yas ybs yk yf ys yin yli you yva yop ynu yse yth) := nm_r (nI_1 t) (br_f (by decide) (br_f (by decide) (br_t (by decide) H)))
    exact br_f (by decide) (br_f (by decide) (br_f (fw_400 ht) (br_c (fun z => G) (fun z => br_t (by decide) G))))
  · have G : (wY_item_70 post (nI i) 5 yit ysz yfd (nI c) ymd ysa ytk ydp yps ybt (nI t) yus ynx yra yrd yks yas ybs yk yf ys yin yli you yva yop ynu yse yth) := nm_r (nI_1 t) (br_f (by decide) (br_f (by decide) (br_t (by decide) H)))
    exact br_f (by decide) (br_f (by decide) (br_f (fw_400 ht) (br_c (fun z => G) (fun z => br_t (by decide) G))))
  · have G : (wY_item_70 post (nI i) 9 yit ysz yfd (nI c) ymd ysa ytk ydp yps ybt (nI t) yus ynx yra yrd yks yas ybs yk yf ys yin yli you yva yop ynu yse yth) := nm_r (nI_1 t) (br_f (by decide) (br_f (by decide) (br_f (by decide) (br_t (by decide) H))))
    exact br_f (by decide) (br_f (by decide) (br_f (fw_400 ht) (br_c (fun z => G) (fun z => br_t (by decide) G))))
  · have G : (wY_item_70 post (nI i) 10 yit ysz yfd (nI c) ymd ysa ytk ydp yps ybt (nI t) yus ynx yra yrd yks yas ybs yk yf ys yin yli you yva yop ynu yse yth) := nm_r (nI_1 t) (br_f (by decide) (br_f (by decide) (br_f (by decide) (br_t (by decide) H))))
    exact br_f (by decide) (br_f (by decide) (br_f (fw_400 ht) (br_c (fun z => G) (fun z => br_t (by decide) G))))
  · have G : (wY_item_70 post (nI i) 11 yit ysz yfd (nI c) ymd ysa ytk ydp yps ybt (nI t) yus ynx yra yrd yks yas ybs yk yf ys yin yli you yva yop ynu yse yth) := nm_r (nI_1 t) (br_f (by decide) (br_f (by decide) (br_f (by decide) (br_t (by decide) H))))
    exact br_f (by decide) (br_f (by decide) (br_f (fw_400 ht) (br_c (fun z => G) (fun z => br_t (by decide) G))))
theorem yi_many {post : Int32 → SY → Prop} {i : Nat} {kk : Int32} (h12 : ¬ kk = 12) (h13 : ¬ kk = 13) (hw : yk i = kk) (hi : i < 40) (H : post 8 (yit, ysz, yfd, yls, ymd, ysa, ytk, ydp, yps, ybt, nI 400, yus, ynx, yra, yrd, yks, yas, ybs, yk, yf, ys, yin, yli, you, yva, yop, ynu, yse, yth)) : (wpY_item post (yit, ysz, yfd, yls, ymd, ysa, ytk, ydp, yps, ybt, nI 400, yus, ynx, yra, yrd, yks, yas, ybs, yk, yf, ys, yin, yli, you, yva, yop, ynu, yse, yth) (nI i)) :=
  And.intro (vp_in_nI hi (by decide)) (nm_r (e' := kk) (by rw [nI_clamp (by omega)]; exact hw) (br_f h13 (br_f h12 (br_t rfl H))))
theorem yi_many2 {post : Int32 → SY → Prop} {i t : Nat} {kk : Int32} (h12 : ¬ kk = 12) (h13 : ¬ kk = 13) (h3 : ¬ 3 ≤ kk) (hw : yk i = kk) (hi : i < 40) (ht : t < 400) (H : post 8 (yit, ysz, yfd, nI 40, ymd, ysa, ytk, ydp, yps, ybt, nI t, yus, ynx, yra, 1, yks, yas, ybs, yk, yf, ys, yin, yli, you, yva, yop, ynu, yse, yth)) : (wpY_item post (yit, ysz, yfd, nI 40, ymd, ysa, ytk, ydp, yps, ybt, nI t, yus, ynx, yra, 1, yks, yas, ybs, yk, yf, ys, yin, yli, you, yva, yop, ynu, yse, yth) (nI i)) :=
  And.intro (vp_in_nI hi (by decide)) (nm_r (e' := kk) (by rw [nI_clamp (by omega)]; exact hw) (br_f h13 (br_f h12 (br_f (fw_400 ht) (br_f (by decide) (br_f h3 (br_t rfl H)))))))
/-- too many steps, too many values -/
theorem st_many {n B i m p b t k c : Nat} {s : List (Nat × Nat)} (R : (fw_RF n B i m p b t k c s xit xrd xil xml wr bby sm xk xf xs wh aa bb par ri rb rv inp mad sav yit yfd ymd yrd yks yas ybs yk yf ys yin you yop ynu)) (hi : i < n) (XI : ∀ (post : SX → Prop) (q : Nat), (wpX_item (fw_X66 post q) (xit, xln, xrd, xop, xil, nI c, xml, wr, nI i, nI p, nI (fw_LM yk B s), bby, nI b, sm, nI t, nI k, nI (fw_RK yk s), beg, (-1), plc, rch, xk, xf, xs, wh, aa, bb, par, ri, rb, rv, oi, os, ot, inp, lst, mad, vr, sav)) → fw_X66 post (q + 1) (xit, xln, xrd, xop, xil, nI c, xml, wr, nI i, nI p, nI (fw_LM yk B s), bby, nI b, sm, nI t, nI k, nI (fw_RK yk s), beg, (-1), plc, rch, xk, xf, xs, wh, aa, bb, par, ri, rb, rv, oi, os, ot, inp, lst, mad, vr, sav)) {kk : Int32} (ek : yk i = kk) (h12 : ¬ 12 ≤ kk) (h12' : ¬ kk = 12) (h13 : ¬ kk = 13) (h : t = 400 ∨ (t < 400 ∧ ¬ 3 ≤ kk ∧ wr = 0 ∧ c = 40)) : fw_ST wr i m (xit, xln, xrd, xop, xil, nI c, xml, wr, nI i, nI p, nI (fw_LM yk B s), bby, nI b, sm, nI t, nI k, nI (fw_RK yk s), beg, (-1), plc, rch, xk, xf, xs, wh, aa, bb, par, ri, rb, rv, oi, os, ot, inp, lst, mad, vr, sav) (yit, nI n, yfd, nI c, ymd, ysa, ytk, nI s.length, nI p, nI b, nI t, nI k, ynx, yra, yrd, yks, yas, ybs, yk, yf, ys, yin, lst, you, vr, yop, ynu, yse, yth) := by
  have hn := R.2.1.1
  have ew : wh i = kk := ((R.2.1.2.1 i hi).1).trans ek
  have D := R.2.2.2.1
  rcases h with rfl | ⟨ht, h3, rfl, rfl⟩
  · exact st_fail R hi XI (h := 8) (by decide) (by decide) D (fun _ => ⟨rfl, rfl, rfl, rfl⟩) (fun post H => xi_many h12 ew (by omega) H) (fun post H => yi_many h12' h13 ek (by omega) H)
  · have er : yrd = 1 := by
      rcases R.2.2.1.2 with ⟨_, h, _⟩ | ⟨h, _⟩
      · exact h
      · exact absurd h (by decide)
    subst er
    exact st_fail R hi XI (h := 8) (by decide) (by decide) D (fun z => absurd z (by decide)) (fun post H => xi_many2 h12 h3 ew (by omega) ht H) (fun post H => yi_many2 h12' h13 h3 ek (by omega) ht H)
/-- an item that closes the bits first -/
theorem st_close {n B i m p b t k c : Nat} {s : List (Nat × Nat)} (R : (fw_RF n B i m p b t k c s xit xrd xil xml wr bby sm xk xf xs wh aa bb par ri rb rv inp mad sav yit yfd ymd yrd yks yas ybs yk yf ys yin you yop ynu)) (hi : i < n) (ht : t < 400) (XI : ∀ (post : SX → Prop) (q : Nat), (wpX_item (fw_X66 post q) (xit, xln, xrd, xop, xil, nI c, xml, wr, nI i, nI p, nI (fw_LM yk B s), bby, nI b, sm, nI t, nI k, nI (fw_RK yk s), beg, (-1), plc, rch, xk, xf, xs, wh, aa, bb, par, ri, rb, rv, oi, os, ot, inp, lst, mad, vr, sav)) → fw_X66 post (q + 1) (xit, xln, xrd, xop, xil, nI c, xml, wr, nI i, nI p, nI (fw_LM yk B s), bby, nI b, sm, nI t, nI k, nI (fw_RK yk s), beg, (-1), plc, rch, xk, xf, xs, wh, aa, bb, par, ri, rb, rv, oi, os, ot, inp, lst, mad, vr, sav)) {kk : Int32} (ek : yk i = kk) (hk : kk = 0 ∨ kk = 1 ∨ kk = 3 ∨ kk = 6 ∨ kk = 7 ∨ kk = 8) (hc : kk = 0 ∨ kk = 1 → wr = 0 → c < 40) :
    (∃ (sm' : Int32) (mad' : Nat → Int32), (fw_DP wr xml ymd p 0 0 sm' inp mad' yin you) ∧
      (∀ post : SX → Prop, fw_X143 post kk (xit, xln, xrd, xop, xil, nI c, xml, wr, nI i, nI p, nI (fw_LM yk B s), 0, nI 0, sm', nI (t + 1), nI k, nI (fw_RK yk s), nI p, (-1), plc, rch, xk, xf, xs, wh, aa, bb, par, ri, rb, rv, oi, os, ot, inp, lst, mad', vr, sav) → (wpX_item post (xit, xln, xrd, xop, xil, nI c, xml, wr, nI i, nI p, nI (fw_LM yk B s), bby, nI b, sm, nI t, nI k, nI (fw_RK yk s), beg, (-1), plc, rch, xk, xf, xs, wh, aa, bb, par, ri, rb, rv, oi, os, ot, inp, lst, mad, vr, sav))) ∧
      (∀ post : Int32 → SY → Prop, fw_Y113 post (nI i) kk (yit, nI n, yfd, nI c, ymd, ysa, ytk, nI s.length, nI p, nI 0, nI (t + 1), nI k, nI (i + 1), nI p, yrd, yks, yas, ybs, yk, yf, ys, yin, lst, you, vr, yop, ynu, yse, yth) → (wpY_item post (yit, nI n, yfd, nI c, ymd, ysa, ytk, nI s.length, nI p, nI b, nI t, nI k, nI (i + 1), nI p, yrd, yks, yas, ybs, yk, yf, ys, yin, lst, you, vr, yop, ynu, yse, yth) (nI i)))) ∨
    fw_ST wr i m (xit, xln, xrd, xop, xil, nI c, xml, wr, nI i, nI p, nI (fw_LM yk B s), bby, nI b, sm, nI t, nI k, nI (fw_RK yk s), beg, (-1), plc, rch, xk, xf, xs, wh, aa, bb, par, ri, rb, rv, oi, os, ot, inp, lst, mad, vr, sav) (yit, nI n, yfd, nI c, ymd, ysa, ytk, nI s.length, nI p, nI b, nI t, nI k, ynx, yra, yrd, yks, yas, ybs, yk, yf, ys, yin, lst, you, vr, yop, ynu, yse, yth) := by
  have hn := R.2.1.1
  have ew : wh i = kk := ((R.2.1.2.1 i hi).1).trans ek
  have D := R.2.2.2.1
  have M := R.2.2.1
  have hc' : kk = 0 ∨ kk = 1 → ¬ yrd = 0 → c < 40 := by
    intro h z
    rcases M.2 with ⟨e, _⟩ | ⟨_, e, _⟩
    · exact hc h e
    · exact absurd e z
  rcases jj_close (xit := xit) (xln := xln) (xrd := xrd) (xop := xop) (xil := xil) (cnt := nI c) (xml := xml) (wr := wr) (pc := nI i) (lim := nI (fw_LM yk B s)) (bby := bby) (sm := sm) (st := nI (t + 1)) (tkn := nI k) (dep := nI (fw_RK yk s)) (beg := nI p) (oc := (-1)) (plc := plc) (rch := rch) (xk := xk) (xf := xf) (xs := xs) (wh := wh) (aa := aa) (bb := bb) (par := par) (ri := ri) (rb := rb) (rv := rv) (oi := oi) (os := os) (ot := ot) (inp := inp) (lst := lst) (mad := mad) (vr := vr) (sav := sav) (yit := yit) (ysz := nI n) (yfd := yfd) (yls := nI c) (ymd := ymd) (ysa := ysa) (ytk := ytk) (ydp := nI s.length) (yst := nI (t + 1)) (yus := nI k) (ynx := nI (i + 1)) (yra := nI p) (yrd := yrd) (yks := yks) (yas := yas) (ybs := ybs) (yk := yk) (yf := yf) (ys := ys) (yin := yin) (yli := lst) (you := you) (yva := vr) (yop := yop) (ynu := ynu) (yse := yse) (yth := yth) D M with ⟨sm', mad', D', hX, hY⟩ | ⟨rfl, hX, hY⟩
  · exact Or.inl ⟨sm', mad', D', fun post H => xi_cl hk ew (by omega) ht hc (hX _ H), fun post H => yi_cl hk ek (by omega) ht hc' (hY _ (br_t rfl H))⟩
  · exact Or.inr (st_fail R hi XI (h := 6) (by decide) (by decide) D (fun z => absurd z (by decide)) (fun post H => xi_cl hk ew (by omega) ht hc (hX _ (br_f (by decide) H))) (fun post H => yi_cl hk ek (by omega) ht hc' (hY _ (br_f (by decide) H))))
end
section
/-! the items of bytes -/
variable {xit xln xrd xop xil cnt xml wr pc pos lim bby bl sm st tkn dep beg oc plc rch : Int32} {xk xf xs wh aa bb par ri rb rv oi os ot inp lst mad vr sav : Nat → Int32} {yit ysz yfd yls ymd ysa ytk ydp yps ybt yst yus ynx yra yrd : Int32} {yks yas ybs yk yf ys yin yli you yva yop ynu yse yth : Nat → Int32}
def fw_X173 (post : SX → Prop) (u : SX) : Prop := match u with
  | (xit, xln, xrd, xop, xil, cnt, xml, wr, pc, pos, lim, bby, bl, sm, st, tkn, dep, beg, oc, plc, rch, xk, xf, xs, wh, aa, bb, par, ri, rb, rv, oi, os, ot, inp, lst, mad, vr, sav) => (wX_bytesItem_173 (fun u => match u with | (u_xit, u_xln, u_xrd, u_xop, u_xil, u_cnt, u_xml, u_wr, u_pc, u_pos, u_lim, u_bby, u_bl, u_sm, u_st, u_tkn, u_dep, u_beg, u_oc, u_plc, u_rch, u_xk, u_xf, u_xs, u_wh, u_aa, u_bb, u_par, u_ri, u_rb, u_rv, u_oi, u_os, u_ot, u_inp, u_lst, u_mad, u_vr, u_sav) => post (u_xit, u_xln, u_xrd, u_xop, u_xil, u_cnt, u_xml, u_wr, u_pc, u_pos, u_lim, u_bby, u_bl, u_sm, u_st, u_tkn, u_dep, u_beg, u_oc, u_plc, u_rch, u_xk, u_xf, u_xs, u_wh, u_aa, u_bb, u_par, u_ri, u_rb, u_rv, u_oi, u_os, u_ot, u_inp, u_lst, u_mad, u_vr, u_sav)) xit xln xrd xop xil cnt xml wr pc pos lim bby bl sm st tkn dep beg oc plc rch xk xf xs wh aa bb par ri rb rv oi os ot inp lst mad vr sav)
def fw_Xid (post : SX → Prop) (u : SX) : Prop := match u with
  | (xit, xln, xrd, xop, xil, cnt, xml, wr, pc, pos, lim, bby, bl, sm, st, tkn, dep, beg, oc, plc, rch, xk, xf, xs, wh, aa, bb, par, ri, rb, rv, oi, os, ot, inp, lst, mad, vr, sav) => post (xit, xln, xrd, xop, xil, cnt, xml, wr, pc, pos, lim, bby, bl, sm, st, tkn, dep, beg, oc, plc, rch, xk, xf, xs, wh, aa, bb, par, ri, rb, rv, oi, os, ot, inp, lst, mad, vr, sav)
def fw_Yid (post : Int32 → SY → Prop) (r : Int32) (v : SY) : Prop := match v with
  | (yit, ysz, yfd, yls, ymd, ysa, ytk, ydp, yps, ybt, yst, yus, ynx, yra, yrd, yks, yas, ybs, yk, yf, ys, yin, yli, you, yva, yop, ynu, yse, yth) => post r (yit, ysz, yfd, yls, ymd, ysa, ytk, ydp, yps, ybt, yst, yus, ynx, yra, yrd, yks, yas, ybs, yk, yf, ys, yin, yli, you, yva, yop, ynu, yse, yth)
theorem x143_num {post : SX → Prop} {i k c : Nat} (hi : i < 41) (hw : wr = 0 ∨ (wr = 1 ∧ k < c ∧ c ≤ 40)) (H : (wpX_number (fw_X173 post) (xit, xln, xrd, xop, xil, nI c, xml, wr, nI i, pos, lim, bby, bl, sm, st, nI k, dep, beg, (-1), plc, rch, xk, xf, xs, wh, aa, bb, par, ri, rb, rv, oi, os, ot, inp, lst, mad, vr, sav) (aa i) (bb i))) : fw_X143 post 0 (xit, xln, xrd, xop, xil, nI c, xml, wr, nI i, pos, lim, bby, bl, sm, st, nI k, dep, beg, (-1), plc, rch, xk, xf, xs, wh, aa, bb, par, ri, rb, rv, oi, os, ot, inp, lst, mad, vr, sav) := by
  have hpc : vp_in (nI i) 41 := vp_in_nI hi (by decide)
  have ci : (nI i).toNatClampNeg = i := nI_clamp (by omega)
  have G : (wX_bytesItem_29 (fw_Xid post) (aa i) xit xln xrd xop xil (nI c) xml wr (nI i) pos lim bby bl sm st (nI k) dep beg (-1) plc rch xk xf xs wh aa bb par ri rb rv oi os ot inp lst mad vr sav) := And.intro hpc (by rw [ci]; exact H)
  refine br_t (by decide) (br_t (by decide) (And.intro hpc (nm_r (e' := aa i) (by rw [ci]) (br_t rfl ?_))))
  rcases hw with rfl | ⟨rfl, h, h'⟩
  · exact br_t rfl G
  · exact br_f (by decide) (br_f (nI_ge h (by omega)) (br_t rfl G))
theorem x143_grp_r {post : SX → Prop} {i : Nat} (hi : i < 41) (H : (wpX_getGroups (fw_X173 post) (xit, xln, xrd, xop, xil, cnt, xml, 0, nI i, pos, lim, bby, bl, sm, st, tkn, dep, beg, (-1), plc, rch, xk, xf, xs, wh, aa, bb, par, ri, rb, rv, oi, os, ot, inp, lst, mad, vr, sav))) : fw_X143 post 1 (xit, xln, xrd, xop, xil, cnt, xml, 0, nI i, pos, lim, bby, bl, sm, st, tkn, dep, beg, (-1), plc, rch, xk, xf, xs, wh, aa, bb, par, ri, rb, rv, oi, os, ot, inp, lst, mad, vr, sav) :=
  br_t (by decide) (br_t (by decide) (And.intro (vp_in_nI hi (by decide)) (nm_e (br_f (by decide) (br_t rfl (br_t rfl (br_t rfl H)))))))
theorem x143_grp_w {post : SX → Prop} {i k c : Nat} (hi : i < 41) (h : k < c) (h' : c ≤ 40) (H : (wpX_putGroups (fw_X173 post) (xit, xln, xrd, xop, xil, nI c, xml, 1, nI i, pos, lim, bby, bl, sm, st, nI k, dep, beg, (-1), plc, rch, xk, xf, xs, wh, aa, bb, par, ri, rb, rv, oi, os, ot, inp, lst, mad, vr, sav))) : fw_X143 post 1 (xit, xln, xrd, xop, xil, nI c, xml, 1, nI i, pos, lim, bby, bl, sm, st, nI k, dep, beg, (-1), plc, rch, xk, xf, xs, wh, aa, bb, par, ri, rb, rv, oi, os, ot, inp, lst, mad, vr, sav) :=
  br_t (by decide) (br_t (by decide) (And.intro (vp_in_nI hi (by decide)) (nm_e (br_f (by decide) (br_t rfl (br_f (by decide) (br_f (nI_ge h (by omega)) (br_t rfl (br_f (by decide) H)))))))))
theorem x143_bits {post : SX → Prop} {i k c : Nat} (hi : i < 41) (hw : wr = 0 ∨ (wr = 1 ∧ k < c ∧ c ≤ 40)) (H : (wpX_bits (fw_X173 post) (xit, xln, xrd, xop, xil, nI c, xml, wr, nI i, pos, lim, bby, bl, sm, st, nI k, dep, beg, (-1), plc, rch, xk, xf, xs, wh, aa, bb, par, ri, rb, rv, oi, os, ot, inp, lst, mad, vr, sav) (aa i))) : fw_X143 post 2 (xit, xln, xrd, xop, xil, nI c, xml, wr, nI i, pos, lim, bby, bl, sm, st, nI k, dep, beg, (-1), plc, rch, xk, xf, xs, wh, aa, bb, par, ri, rb, rv, oi, os, ot, inp, lst, mad, vr, sav) := by
  have hpc : vp_in (nI i) 41 := vp_in_nI hi (by decide)
  have ci : (nI i).toNatClampNeg = i := nI_clamp (by omega)
  refine br_t (by decide) (br_t (by decide) (And.intro hpc (nm_r (e' := aa i) (by rw [ci]) (br_f (by decide) (br_f (by decide) (br_t rfl ?_))))))
  rcases hw with rfl | ⟨rfl, h, h'⟩
  · exact br_t rfl H
  · exact br_f (by decide) (br_f (nI_ge h (by omega)) (br_t rfl H))
theorem x143_none {post : SX → Prop} {i c : Nat} {kk : Int32} (hk : kk = 0 ∨ kk = 1 ∨ kk = 2) (hi : i < 41) (H : post (xit, xln, xrd, xop, xil, nI c, xml, 1, nI i, pos, lim, bby, bl, sm, st, nI c, dep, beg, 3, nI i, beg, xk, xf, xs, wh, aa, bb, par, ri, rb, rv, oi, os, ot, inp, lst, mad, vr, sav)) : fw_X143 post kk (xit, xln, xrd, xop, xil, nI c, xml, 1, nI i, pos, lim, bby, bl, sm, st, nI c, dep, beg, (-1), plc, rch, xk, xf, xs, wh, aa, bb, par, ri, rb, rv, oi, os, ot, inp, lst, mad, vr, sav) := by
  have hpc : vp_in (nI i) 41 := vp_in_nI hi (by decide)
  rcases hk with rfl | rfl | rfl
  · exact br_t (by decide) (br_t (by decide) (And.intro hpc (nm_e (br_t rfl (br_f (by decide) (br_t (Int32.le_refl _) (xx_end (by decide) (br_f (by decide) H))))))))
  · exact br_t (by decide) (br_t (by decide) (And.intro hpc (nm_e (br_f (by decide) (br_t rfl (br_f (by decide) (br_t (Int32.le_refl _) (xx_end (by decide) (br_f (by decide) H)))))))))
  · exact br_t (by decide) (br_t (by decide) (And.intro hpc (nm_e (br_f (by decide) (br_f (by decide) (br_t rfl (br_f (by decide) (br_t (Int32.le_refl _) (xx_end (by decide) (br_f (by decide) H))))))))))
theorem x143_fix {post : SX → Prop} {i p L : Nat} {kk v : Int32} (hk : (kk = 3 ∧ v = aa i) ∨ (kk = 7 ∧ v = (aa i + sm) &&& 255)) (hi : i < 41) (hp : p ≤ L) (hL : L ≤ 64)
    (H3 : p = L → post (xit, xln, xrd, xop, xil, cnt, xml, wr, nI i, nI p, nI L, bby, bl, sm, st, tkn, dep, beg, 3, nI i, beg, xk, xf, xs, wh, aa, bb, par, ri, rb, rv, oi, os, ot, inp, lst, mad, vr, sav))
    (H : p < L → (wpX_fixed (fw_X173 post) (xit, xln, xrd, xop, xil, cnt, xml, wr, nI i, nI p, nI L, bby, bl, sm, st, tkn, dep, beg, (-1), plc, rch, xk, xf, xs, wh, aa, bb, par, ri, rb, rv, oi, os, ot, inp, lst, mad, vr, sav) v)) : fw_X143 post kk (xit, xln, xrd, xop, xil, cnt, xml, wr, nI i, nI p, nI L, bby, bl, sm, st, tkn, dep, beg, (-1), plc, rch, xk, xf, xs, wh, aa, bb, par, ri, rb, rv, oi, os, ot, inp, lst, mad, vr, sav) := by
  have hpc : vp_in (nI i) 41 := vp_in_nI hi (by decide)
  have ci : (nI i).toNatClampNeg = i := nI_clamp (by omega)
  have G : (wX_bytesItem_148 (fw_Xid post) v xit xln xrd xop xil cnt xml wr (nI i) (nI p) (nI L) bby bl sm st tkn dep beg (-1) plc rch xk xf xs wh aa bb par ri rb rv oi os ot inp lst mad vr sav) :=
    pk_eq p L (fun h => xx_end (by decide) (br_t (by decide) (H3 h))) (fun h => H (by omega))
  rcases hk with ⟨rfl, rfl⟩ | ⟨rfl, rfl⟩
  · exact br_t (by decide) (br_t (by decide) (And.intro hpc (nm_r (e' := aa i) (by rw [ci]) (br_f (by decide) (br_f (by decide) (br_f (by decide) (br_f (by decide) (br_t rfl G))))))))
  · exact br_t (by decide) (br_f (by decide) (br_t rfl (And.intro hpc (nm_r (e' := aa i) (by rw [ci]) (br_f (by decide) (br_f (by decide) (br_f (by decide) (br_f (by decide) (br_f (by decide) G)))))))))
theorem x143_al {post : SX → Prop} {i : Nat} (hi : i < 41) (H : (wpX_align (fw_X173 post) (xit, xln, xrd, xop, xil, cnt, xml, wr, nI i, pos, lim, bby, bl, sm, st, tkn, dep, beg, (-1), plc, rch, xk, xf, xs, wh, aa, bb, par, ri, rb, rv, oi, os, ot, inp, lst, mad, vr, sav) (aa i))) : fw_X143 post 8 (xit, xln, xrd, xop, xil, cnt, xml, wr, nI i, pos, lim, bby, bl, sm, st, tkn, dep, beg, (-1), plc, rch, xk, xf, xs, wh, aa, bb, par, ri, rb, rv, oi, os, ot, inp, lst, mad, vr, sav) :=
  br_t (by decide) (br_f (by decide) (br_f (by decide) (br_t rfl (And.intro (vp_in_nI hi (by decide)) (nm_r (e' := aa i) (by rw [nI_clamp (by omega)]) (br_f (by decide) (br_f (by decide) (br_f (by decide) (br_t rfl H)))))))))
theorem y113_take {post : Int32 → SY → Prop} {i : Nat} {kk : Int32} (hk : kk = 0 ∨ kk = 1 ∨ kk = 2) (hi : i < 40) (H : (wpY_take (fw_Yid post) (yit, ysz, yfd, yls, ymd, ysa, ytk, ydp, yps, ybt, yst, yus, ynx, yra, 1, yks, yas, ybs, yk, yf, ys, yin, yli, you, yva, yop, ynu, yse, yth) kk (nI i) (ys i &&& 7))) : fw_Y113 post (nI i) kk (yit, ysz, yfd, yls, ymd, ysa, ytk, ydp, yps, ybt, yst, yus, ynx, yra, 1, yks, yas, ybs, yk, yf, ys, yin, yli, you, yva, yop, ynu, yse, yth) := by
  refine And.intro (vp_in_nI hi (by decide)) (nm_r (e' := ys i &&& 7) (by rw [nI_clamp (by omega)]) ?_)
  rcases hk with rfl | rfl | rfl <;> exact br_f (by decide) (br_f (by decide) H)
theorem y113_give {post : Int32 → SY → Prop} {i : Nat} {kk : Int32} (hk : kk = 0 ∨ kk = 1 ∨ kk = 2) (hi : i < 40) (H : (wpY_give (fw_Yid post) (yit, ysz, yfd, yls, ymd, ysa, ytk, ydp, yps, ybt, yst, yus, ynx, yra, 0, yks, yas, ybs, yk, yf, ys, yin, yli, you, yva, yop, ynu, yse, yth) kk (nI i) (ys i &&& 7))) : fw_Y113 post (nI i) kk (yit, ysz, yfd, yls, ymd, ysa, ytk, ydp, yps, ybt, yst, yus, ynx, yra, 0, yks, yas, ybs, yk, yf, ys, yin, yli, you, yva, yop, ynu, yse, yth) := by
  refine And.intro (vp_in_nI hi (by decide)) (nm_r (e' := ys i &&& 7) (by rw [nI_clamp (by omega)]) ?_)
  rcases hk with rfl | rfl | rfl <;> exact br_f (by decide) (br_t (by decide) H)
theorem y113_plain {post : Int32 → SY → Prop} {i : Nat} {kk : Int32} (hk : kk = 3 ∨ kk = 7 ∨ kk = 8 ∨ kk = 9 ∨ kk = 10 ∨ kk = 11) (hi : i < 40) (H : (wpY_plain (fw_Yid post) (yit, ysz, yfd, yls, ymd, ysa, ytk, ydp, yps, ybt, yst, yus, ynx, yra, yrd, yks, yas, ybs, yk, yf, ys, yin, yli, you, yva, yop, ynu, yse, yth) kk (yf i) (ys i &&& 7))) : fw_Y113 post (nI i) kk (yit, ysz, yfd, yls, ymd, ysa, ytk, ydp, yps, ybt, yst, yus, ynx, yra, yrd, yks, yas, ybs, yk, yf, ys, yin, yli, you, yva, yop, ynu, yse, yth) := by
  have ci : (nI i).toNatClampNeg = i := nI_clamp (by omega)
  have G : (wY_item_172 post (nI i) kk (ys i &&& 7) yit ysz yfd yls ymd ysa ytk ydp yps ybt yst yus ynx yra yrd yks yas ybs yk yf ys yin yli you yva yop ynu yse yth) := And.intro (vp_in_nI hi (by decide)) (by rw [ci]; exact H)
  refine And.intro (vp_in_nI hi (by decide)) (nm_r (e' := ys i &&& 7) (by rw [ci]) ?_)
  rcases hk with rfl | rfl | rfl | rfl | rfl | rfl
  · exact br_t (by decide) (br_f (by decide) (br_t (by decide) G))
  · exact br_t (by decide) (br_t (by decide) G)
  · exact br_t (by decide) (br_t (by decide) G)
  · exact br_t (by decide) (br_t (by decide) G)
  · exact br_t (by decide) (br_t (by decide) G)
  · exact br_t (by decide) (br_t (by decide) G)
theorem y113_begin {post : Int32 → SY → Prop} {i : Nat} {kk : Int32} (hk : kk = 4 ∨ kk = 5 ∨ kk = 6) (hi : i < 40) (H : (wpY_begin (fw_Yid post) (yit, ysz, yfd, yls, ymd, ysa, ytk, ydp, yps, ybt, yst, yus, ynx, yra, yrd, yks, yas, ybs, yk, yf, ys, yin, yli, you, yva, yop, ynu, yse, yth) (nI i) kk (ys i &&& 7))) : fw_Y113 post (nI i) kk (yit, ysz, yfd, yls, ymd, ysa, ytk, ydp, yps, ybt, yst, yus, ynx, yra, yrd, yks, yas, ybs, yk, yf, ys, yin, yli, you, yva, yop, ynu, yse, yth) := by
  refine And.intro (vp_in_nI hi (by decide)) (nm_r (e' := ys i &&& 7) (by rw [nI_clamp (by omega)]) ?_)
  rcases hk with rfl | rfl | rfl <;> exact br_t (by decide) (br_f (by decide) (br_f (by decide) H))
/-! the relation of the bytes, one side at a time -/
theorem DP_r {xml ymd bby sm : Int32} {p b : Nat} {inp mad yin you : Nat → Int32} (D : (fw_DP 0 xml ymd p b bby sm inp mad yin you)) : b ≤ 7 ∧ (0 < b → 0 < p ∧ bby = yin (p - 1)) ∧ sm = fw_sum yin p ∧ (∀ j, yin j = inp j &&& 255) := by
  obtain ⟨a, b, c, d, ⟨_, e, f, g⟩ | ⟨h, _⟩⟩ := D
  · exact ⟨a, fun z => ⟨c z, e z⟩, f, d⟩
  · exact absurd h (by decide)
theorem DP_mk {xml ymd bby sm bby' : Int32} {p b p' b' : Nat} {inp mad yin you : Nat → Int32} (D : (fw_DP 0 xml ymd p b bby sm inp mad yin you)) (hp : p' ≤ 64) (hb : b' ≤ 7) (h : 0 < b' → 0 < p' ∧ bby' = yin (p' - 1)) : (fw_DP 0 xml ymd p' b' bby' (fw_sum yin p') inp mad yin you) := by
  obtain ⟨_, _, _, d, ⟨_, e, f, g⟩ | ⟨z, _⟩⟩ := D
  · exact ⟨hb, hp, fun z => (h z).1, d, Or.inl ⟨rfl, fun z => (h z).2, rfl, g⟩⟩
  · exact absurd z (by decide)
theorem fw_gg_how {f : Nat → Int32} {L : Nat} : ∀ d p x j, (fw_gg f L d p x j).1 = 0 ∨ (fw_gg f L d p x j).1 = 3 ∨ (fw_gg f L d p x j).1 = 6
  | 0, p, x, j => Or.inr (Or.inr rfl)
  | d + 1, p, x, j => by
    rw [fw_gg]
    split
    · exact Or.inr (Or.inl rfl)
    · split
      · exact Or.inr (Or.inr rfl)
      · split
        · exact Or.inl rfl
        · exact fw_gg_how d _ _ _
section
variable {n B i m p b t k c : Nat} {s : List (Nat × Nat)}
theorem fw_len (R : (fw_RF n B i m p b t k c s xit xrd xil xml wr bby sm xk xf xs wh aa bb par ri rb rv inp mad sav yit yfd ymd yrd yks yas ybs yk yf ys yin you yop ynu)) : s.length ≤ 4 := by
  obtain ⟨_, F, _, _, S, hi, _⟩ := R
  rw [fw_SK_len S]
  exact fw_st_len F.2.2.2.1 i hi
theorem fw_plain {K : Nat → Int32} {kk : Int32} (e : K i = kk) (h : ¬ (kk = 4 ∨ kk = 5 ∨ kk = 6)) (h2 : ¬ kk = 12) (h3 : ¬ kk = 13) : fw_st K (i + 1) = fw_st K i :=
  fw_st_no (by rw [e]; exact h) (by rw [e]; exact h2) (by rw [e]; exact h3)
theorem fw_1c (wr : Int32) {c t : Nat} (hc : c ≤ 40) (ht : t ≤ 400) : (t = 400 ∨ (t < 400 ∧ wr = 0 ∧ c = 40)) ∨ (t < 400 ∧ (wr = 0 → c < 40)) := by
  rcases Nat.lt_or_ge t 400 with h | h
  · rcases Nat.lt_or_ge c 40 with g | g
    · exact Or.inr ⟨h, fun _ => g⟩
    · by_cases z : wr = 0
      · exact Or.inl (Or.inr ⟨h, z, by omega⟩)
      · exact Or.inr ⟨h, fun w => absurd w z⟩
  · exact Or.inl (Or.inl (by omega))
theorem st_0 (R : (fw_RF n B i m p b t k c s xit xrd xil xml wr bby sm xk xf xs wh aa bb par ri rb rv inp mad sav yit yfd ymd yrd yks yas ybs yk yf ys yin you yop ynu)) (hi : i < n) (XI : ∀ (post : SX → Prop) (q : Nat), (wpX_item (fw_X66 post q) (xit, xln, xrd, xop, xil, nI c, xml, wr, nI i, nI p, nI (fw_LM yk B s), bby, nI b, sm, nI t, nI k, nI (fw_RK yk s), beg, (-1), plc, rch, xk, xf, xs, wh, aa, bb, par, ri, rb, rv, oi, os, ot, inp, lst, mad, vr, sav)) → fw_X66 post (q + 1) (xit, xln, xrd, xop, xil, nI c, xml, wr, nI i, nI p, nI (fw_LM yk B s), bby, nI b, sm, nI t, nI k, nI (fw_RK yk s), beg, (-1), plc, rch, xk, xf, xs, wh, aa, bb, par, ri, rb, rv, oi, os, ot, inp, lst, mad, vr, sav)) (ek : yk i = 0) : fw_ST wr i m (xit, xln, xrd, xop, xil, nI c, xml, wr, nI i, nI p, nI (fw_LM yk B s), bby, nI b, sm, nI t, nI k, nI (fw_RK yk s), beg, (-1), plc, rch, xk, xf, xs, wh, aa, bb, par, ri, rb, rv, oi, os, ot, inp, lst, mad, vr, sav) (yit, nI n, yfd, nI c, ymd, ysa, ytk, nI s.length, nI p, nI b, nI t, nI k, ynx, yra, yrd, yks, yas, ybs, yk, yf, ys, yin, lst, you, vr, yop, ynu, yse, yth) := by
  have hl := fw_len R
  have R' := R
  obtain ⟨_, F, M, D, S, _, ht, hk, hc, hp, _⟩ := R'
  have hn := F.1
  have hB := fw_LM_le S
  have hB' := M.1
  rcases fw_1c wr hc ht with h | ⟨ht, hc1⟩
  · refine st_many R hi XI ek (by decide) (by decide) (by decide) ?_
    rcases h with h | ⟨a, b, c⟩
    · exact Or.inl h
    · exact Or.inr ⟨a, by decide, b, c⟩
  obtain ⟨_, ea, eb, _, fv, _⟩ := F.2.1 i hi
  obtain ⟨a, a1, a4, ef⟩ := fv ek
  have es := fw_plain (K := yk) ek (by decide) (by decide) (by decide)
  rcases st_close R hi ht XI ek (Or.inl rfl) (fun _ => hc1) with ⟨sm', mad', D', hX, hY⟩ | h
  rotate_left
  · exact h
  rcases M.2 with ⟨rfl, rfl, eB⟩ | ⟨rfl, rfl, eB⟩
  · obtain ⟨_, _, es', hin⟩ := DP_r D'
    subst es'
    have hc2 := hc1 rfl
    rcases Nat.lt_or_ge (fw_LM yk B s) (p + a) with g | g
    · refine st_fail R hi XI (h := 3) (by decide) (by decide) (pos' := nI p) (bl' := nI 0) (bby' := 0) (st' := nI (t + 1)) (yps' := nI p) (ybt' := nI 0) (yst' := nI (t + 1)) (ynx' := nI (i + 1)) (sm' := fw_sum yin p) D' (fun z => absurd z (by decide)) (fun post H => hX post (x143_num (by omega) (Or.inl rfl) ?_)) (fun post H => hY post (y113_take (Or.inl rfl) (by omega) ?_))
      · rw [ea, ef]
        exact xx_num_r hin (by omega) a4 hp hc2 (fun z => absurd z (by omega)) (fun z => br_t (by decide) H)
      · exact yy_num_r M S hl hp (by omega) a4 ef hc2 (fun z => absurd z (by omega)) (fun z => H)
    · refine st_data R hi ht XI es (lst' := upd lst c (fw_num yin p a (ys i))) (vr' := upd vr (ys i &&& 7).toNatClampNeg (fw_num yin p a (ys i))) (DP_mk (p' := p + a) (b' := 0) (bby' := 0) D' (by omega) (by omega) (fun z => absurd z (by omega))) g (k' := k) (c' := c + 1) (by omega) (by omega) (fun post H => hX post (x143_num (by omega) (Or.inl rfl) ?_)) (fun post H => hY post (y113_take (Or.inl rfl) (by omega) ?_))
      · rw [ea, ef, eb]
        exact xx_num_r hin (by omega) a4 hp hc2 (fun z => br_f (by decide) (nm_r (nI_1 i) H)) (fun z => absurd z (by omega))
      · exact yy_num_r M S hl hp (by omega) a4 ef hc2 (fun z => H) (fun z => absurd z (by omega))
  · rcases Nat.lt_or_ge k c with g | g
    · by_cases ok : fw_ok (lst k) a (ys i)
      · rcases Nat.lt_or_ge (fw_LM yk B s) (p + a) with g2 | g2
        · refine st_fail R hi XI (h := 3) (by decide) (by decide) (pos' := nI p) (bl' := nI 0) (bby' := 0) (st' := nI (t + 1)) (yps' := nI p) (ybt' := nI 0) (yst' := nI (t + 1)) (ynx' := nI (i + 1)) (sm' := sm') D' (fun z => ⟨rfl, rfl, rfl, rfl⟩) (fun post H => hX post (x143_num (by omega) (Or.inr ⟨rfl, g, hc⟩) ?_)) (fun post H => hY post (y113_give (Or.inl rfl) (by omega) ?_))
          · rw [ea, ef, eb]
            exact xx_num_w (by omega) a4 hp (by omega) (fun z => absurd ok z) (fun _ _ => br_t (by decide) H) (fun _ z => absurd z (by omega))
          · exact yy_num_w M S hl hp (by omega) a1 a4 ef g hc (fun z => absurd ok z) (fun _ _ => H) (fun _ z => absurd z (by omega))
        · refine st_data R hi ht XI es (lst' := lst) (vr' := upd vr (ys i &&& 7).toNatClampNeg (lst k)) (fw_DP_em (bby' := 0) D' (g := fw_nb (lst k) (nI a) (fw_lo (ys i))) (g' := fun j => fw_nb (lst k) (nI a) (fw_lo (ys i)) j &&& 255) (k := a) (by omega) (fun _ => rfl)) g2 (k' := k + 1) (c' := c) (by omega) hc (fun post H => hX post (x143_num (by omega) (Or.inr ⟨rfl, g, hc⟩) ?_)) (fun post H => hY post (y113_give (Or.inl rfl) (by omega) ?_))
          · rw [ea, ef, eb]
            exact xx_num_w (by omega) a4 hp (by omega) (fun z => absurd ok z) (fun _ z => absurd z (by omega)) (fun _ _ => br_f (by decide) (nm_r (nI_1 i) H))
          · exact yy_num_w M S hl hp (by omega) a1 a4 ef g hc (fun z => absurd ok z) (fun _ z => absurd z (by omega)) (fun _ _ => H)
      · refine st_fail R hi XI (h := 4) (by decide) (by decide) (pos' := nI p) (bl' := nI 0) (bby' := 0) (st' := nI (t + 1)) (yps' := nI p) (ybt' := nI 0) (yst' := nI (t + 1)) (ynx' := nI (i + 1)) (sm' := sm') D' (fun z => ⟨rfl, rfl, rfl, rfl⟩) (fun post H => hX post (x143_num (by omega) (Or.inr ⟨rfl, g, hc⟩) ?_)) (fun post H => hY post (y113_give (Or.inl rfl) (by omega) ?_))
        · rw [ea, ef, eb]
          exact xx_num_w (by omega) a4 hp (by omega) (fun _ => br_t (by decide) H) (fun z => absurd z ok) (fun z => absurd z ok)
        · exact yy_num_w M S hl hp (by omega) a1 a4 ef g hc (fun _ => H) (fun z => absurd z ok) (fun z => absurd z ok)
    · obtain rfl : k = c := by omega
      exact st_fail R hi XI (h := 3) (by decide) (by decide) (pos' := nI p) (bl' := nI 0) (bby' := 0) (st' := nI (t + 1)) (yps' := nI p) (ybt' := nI 0) (yst' := nI (t + 1)) (ynx' := nI (i + 1)) (sm' := sm') D' (fun z => ⟨rfl, rfl, rfl, rfl⟩) (fun post H => hX post (x143_none (Or.inl rfl) (by omega) H)) (fun post H => hY post (y113_give (Or.inl rfl) (by omega) (br_t rfl H)))
end
end
section
/-! the other items of bytes, and variables -/
variable {xit xln xrd xop xil cnt xml wr pc pos lim bby bl sm st tkn dep beg oc plc rch : Int32} {xk xf xs wh aa bb par ri rb rv oi os ot inp lst mad vr sav : Nat → Int32} {yit ysz yfd yls ymd ysa ytk ydp yps ybt yst yus ynx yra yrd : Int32} {yks yas ybs yk yf ys yin yli you yva yop ynu yse yth : Nat → Int32}
theorem xx_out {post : Int32 → Prop} {v lo hi : Int32} (H0 : lo ≤ v → v ≤ hi → post 0) (H1 : ¬ (lo ≤ v ∧ v ≤ hi) → post 1) : wpX_outside post v lo hi := by
  refine ⟨fun a => ⟨fun b => And.intro narrow_b0 (H0 a b), fun b => And.intro narrow_b1 (H1 (fun z => b z.2))⟩, fun a => ⟨fun b => And.intro narrow_b1 (H1 (fun z => a z.1)), fun b => And.intro narrow_b1 (H1 (fun z => a z.1))⟩⟩
theorem yy_win {post : Int32 → Prop} {v lo hi : Int32} (H1 : lo ≤ v → v ≤ hi → post 1) (H0 : ¬ (lo ≤ v ∧ v ≤ hi) → post 0) : wpY_within post v lo hi := by
  refine ⟨fun a => H0 (fun z => Int32.not_le.mpr a z.1), fun a => ⟨fun b => H0 (fun z => Int32.not_le.mpr b z.2), fun b => H1 (Int32.not_lt.mp a) (Int32.not_lt.mp b)⟩⟩
theorem x143_ctl {post : SX → Prop} {kk : Int32} (hk : kk = 4 ∨ kk = 5 ∨ kk = 6 ∨ kk = 9 ∨ kk = 10 ∨ kk = 11 ∨ kk = 12 ∨ kk = 13 ∨ kk = 14) (H : (wpX_control (fw_Xid post) (xit, xln, xrd, xop, xil, cnt, xml, wr, pc, pos, lim, bby, bl, sm, st, tkn, dep, beg, (-1), plc, rch, xk, xf, xs, wh, aa, bb, par, ri, rb, rv, oi, os, ot, inp, lst, mad, vr, sav) kk)) : fw_X143 post kk (xit, xln, xrd, xop, xil, cnt, xml, wr, pc, pos, lim, bby, bl, sm, st, tkn, dep, beg, (-1), plc, rch, xk, xf, xs, wh, aa, bb, par, ri, rb, rv, oi, os, ot, inp, lst, mad, vr, sav) := by
  refine br_t (by decide) ?_
  rcases hk with rfl | rfl | rfl | rfl | rfl | rfl | rfl | rfl | rfl <;> exact br_f (by decide) (br_f (by decide) (br_f (by decide) H))
theorem st_1 {n B i m p b t k c : Nat} {s : List (Nat × Nat)} (R : (fw_RF n B i m p b t k c s xit xrd xil xml wr bby sm xk xf xs wh aa bb par ri rb rv inp mad sav yit yfd ymd yrd yks yas ybs yk yf ys yin you yop ynu)) (hi : i < n) (XI : ∀ (post : SX → Prop) (q : Nat), (wpX_item (fw_X66 post q) (xit, xln, xrd, xop, xil, nI c, xml, wr, nI i, nI p, nI (fw_LM yk B s), bby, nI b, sm, nI t, nI k, nI (fw_RK yk s), beg, (-1), plc, rch, xk, xf, xs, wh, aa, bb, par, ri, rb, rv, oi, os, ot, inp, lst, mad, vr, sav)) → fw_X66 post (q + 1) (xit, xln, xrd, xop, xil, nI c, xml, wr, nI i, nI p, nI (fw_LM yk B s), bby, nI b, sm, nI t, nI k, nI (fw_RK yk s), beg, (-1), plc, rch, xk, xf, xs, wh, aa, bb, par, ri, rb, rv, oi, os, ot, inp, lst, mad, vr, sav)) (ek : yk i = 1) : fw_ST wr i m (xit, xln, xrd, xop, xil, nI c, xml, wr, nI i, nI p, nI (fw_LM yk B s), bby, nI b, sm, nI t, nI k, nI (fw_RK yk s), beg, (-1), plc, rch, xk, xf, xs, wh, aa, bb, par, ri, rb, rv, oi, os, ot, inp, lst, mad, vr, sav) (yit, nI n, yfd, nI c, ymd, ysa, ytk, nI s.length, nI p, nI b, nI t, nI k, ynx, yra, yrd, yks, yas, ybs, yk, yf, ys, yin, lst, you, vr, yop, ynu, yse, yth) := by
  have hl := fw_len R
  have R' := R
  obtain ⟨_, F, M, D, S, _, ht, hk, hc, hp, _⟩ := R'
  have hn := F.1
  have hB := fw_LM_le S
  have hB' := M.1
  rcases fw_1c wr hc ht with h | ⟨ht, hc1⟩
  · refine st_many R hi XI ek (by decide) (by decide) (by decide) ?_
    rcases h with h | ⟨a, b, c⟩
    · exact Or.inl h
    · exact Or.inr ⟨a, by decide, b, c⟩
  obtain ⟨_, ea, eb, _⟩ := F.2.1 i hi
  have es := fw_plain (K := yk) ek (by decide) (by decide) (by decide)
  rcases st_close R hi ht XI ek (Or.inr (Or.inl rfl)) (fun _ => hc1) with ⟨sm', mad', D', hX, hY⟩ | h
  rotate_left
  · exact h
  rcases M.2 with ⟨rfl, rfl, eB⟩ | ⟨rfl, rfl, eB⟩
  · obtain ⟨_, _, es', hin⟩ := DP_r D'
    subst es'
    have hc2 := hc1 rfl
    have hle := fw_gg_le (f := yin) 5 p 0 0 hp
    by_cases g : (fw_gg yin (fw_LM yk B s) 5 p 0 0).1 = 0
    · refine st_data R hi ht XI es (lst' := upd lst c (fw_gg yin (fw_LM yk B s) 5 p 0 0).2.2) (vr' := upd vr (ys i &&& 7).toNatClampNeg (fw_gg yin (fw_LM yk B s) 5 p 0 0).2.2) (DP_mk (p' := (fw_gg yin (fw_LM yk B s) 5 p 0 0).2.1) (b' := 0) (bby' := 0) D' (by omega) (by omega) (fun z => absurd z (by omega))) hle (k' := k) (c' := c + 1) (by omega) (by omega) (fun post H => hX post (x143_grp_r (by omega) ⟨6, ?_⟩)) (fun post H => hY post (y113_take (Or.inr (Or.inl rfl)) (by omega) (And.intro (vp_in_nI (by omega) (by decide)) (nm_e (br_t rfl ⟨5, ?_⟩)))))
      · rw [← eb] at H
        exact xx_gg hin (by omega) (by omega) hc2 4 0 p 0 rfl hp (fun _ => br_f (by decide) (nm_r (nI_1 i) H)) (fun z => absurd g z)
      · exact yy_gg M S hl (fw_in7 _) hc2 4 0 p 0 rfl hp (fun _ => H) (fun z => absurd g z)
    · have h0 : 0 ≤ (fw_gg yin (fw_LM yk B s) 5 p 0 0).1 := by
        rcases fw_gg_how (f := yin) (L := fw_LM yk B s) 5 p 0 0 with h | h | h <;> rw [h] <;> decide
      refine st_fail R hi XI (h := (fw_gg yin (fw_LM yk B s) 5 p 0 0).1) g h0 (pos' := nI (fw_gg yin (fw_LM yk B s) 5 p 0 0).2.1) (bl' := nI 0) (bby' := 0) (st' := nI (t + 1)) (yps' := nI (fw_gg yin (fw_LM yk B s) 5 p 0 0).2.1) (ybt' := nI 0) (yst' := nI (t + 1)) (ynx' := nI (i + 1)) (sm' := fw_sum yin (fw_gg yin (fw_LM yk B s) 5 p 0 0).2.1) D' (fun z => absurd z (by decide)) (fun post H => hX post (x143_grp_r (by omega) ⟨6, ?_⟩)) (fun post H => hY post (y113_take (Or.inr (Or.inl rfl)) (by omega) (And.intro (vp_in_nI (by omega) (by decide)) (nm_e (br_t rfl ⟨5, ?_⟩)))))
      · exact xx_gg hin (by omega) (by omega) hc2 4 0 p 0 rfl hp (fun z => absurd z g) (fun _ => br_t h0 H)
      · exact yy_gg M S hl (fw_in7 _) hc2 4 0 p 0 rfl hp (fun z => absurd z g) (fun _ => H)
  · rcases Nat.lt_or_ge k c with g | g
    · rcases Nat.lt_or_ge (fw_LM yk B s) (p + fw_gN (lst k)) with g2 | g2
      · refine st_fail R hi XI (h := 3) (by decide) (by decide) (pos' := nI p) (bl' := nI 0) (bby' := 0) (st' := nI (t + 1)) (yps' := nI p) (ybt' := nI 0) (yst' := nI (t + 1)) (ynx' := nI (i + 1)) (sm' := sm') D' (fun z => ⟨rfl, rfl, rfl, rfl⟩) (fun post H => hX post (x143_grp_w (by omega) g hc ?_)) (fun post H => hY post (y113_give (Or.inr (Or.inl rfl)) (by omega) ?_))
        · exact xx_put_w (by omega) hp (by omega) (by omega) (fun _ => br_t (by decide) H) (fun z => absurd z (by omega))
        · exact yy_put_w M S hl hp (by omega) g hc (fun _ => H) (fun z => absurd z (by omega))
      · refine st_data R hi ht XI es (lst' := lst) (vr' := upd vr (ys i &&& 7).toNatClampNeg (lst k)) (fw_DP_em (bby' := 0) D' (g := fw_gb (lst k) (fw_gN (lst k))) (g' := fw_gb (lst k) (fw_gN (lst k))) (k := fw_gN (lst k)) (by omega) (fun j => fw_gb255 _ _ j)) g2 (k' := k + 1) (c' := c) (by omega) hc (fun post H => hX post (x143_grp_w (by omega) g hc ?_)) (fun post H => hY post (y113_give (Or.inr (Or.inl rfl)) (by omega) ?_))
        · rw [← eb] at H
          exact xx_put_w (by omega) hp (by omega) (by omega) (fun z => absurd z (by omega)) (fun _ => br_f (by decide) (nm_r (nI_1 i) H))
        · exact yy_put_w M S hl hp (by omega) g hc (fun z => absurd z (by omega)) (fun _ => H)
    · obtain rfl : k = c := by omega
      exact st_fail R hi XI (h := 3) (by decide) (by decide) (pos' := nI p) (bl' := nI 0) (bby' := 0) (st' := nI (t + 1)) (yps' := nI p) (ybt' := nI 0) (yst' := nI (t + 1)) (ynx' := nI (i + 1)) (sm' := sm') D' (fun z => ⟨rfl, rfl, rfl, rfl⟩) (fun post H => hX post (x143_none (Or.inr (Or.inl rfl)) (by omega) H)) (fun post H => hY post (y113_give (Or.inr (Or.inl rfl)) (by omega) (br_t rfl H)))
theorem st_2 {n B i m p b t k c : Nat} {s : List (Nat × Nat)} (R : (fw_RF n B i m p b t k c s xit xrd xil xml wr bby sm xk xf xs wh aa bb par ri rb rv inp mad sav yit yfd ymd yrd yks yas ybs yk yf ys yin you yop ynu)) (hi : i < n) (XI : ∀ (post : SX → Prop) (q : Nat), (wpX_item (fw_X66 post q) (xit, xln, xrd, xop, xil, nI c, xml, wr, nI i, nI p, nI (fw_LM yk B s), bby, nI b, sm, nI t, nI k, nI (fw_RK yk s), beg, (-1), plc, rch, xk, xf, xs, wh, aa, bb, par, ri, rb, rv, oi, os, ot, inp, lst, mad, vr, sav)) → fw_X66 post (q + 1) (xit, xln, xrd, xop, xil, nI c, xml, wr, nI i, nI p, nI (fw_LM yk B s), bby, nI b, sm, nI t, nI k, nI (fw_RK yk s), beg, (-1), plc, rch, xk, xf, xs, wh, aa, bb, par, ri, rb, rv, oi, os, ot, inp, lst, mad, vr, sav)) (ek : yk i = 2) : fw_ST wr i m (xit, xln, xrd, xop, xil, nI c, xml, wr, nI i, nI p, nI (fw_LM yk B s), bby, nI b, sm, nI t, nI k, nI (fw_RK yk s), beg, (-1), plc, rch, xk, xf, xs, wh, aa, bb, par, ri, rb, rv, oi, os, ot, inp, lst, mad, vr, sav) (yit, nI n, yfd, nI c, ymd, ysa, ytk, nI s.length, nI p, nI b, nI t, nI k, ynx, yra, yrd, yks, yas, ybs, yk, yf, ys, yin, lst, you, vr, yop, ynu, yse, yth) := by
  have hl := fw_len R
  have R' := R
  obtain ⟨_, F, M, D, S, _, ht, hk, hc, hp, _⟩ := R'
  have hn := F.1
  have hB := fw_LM_le S
  have hB' := M.1
  have hb7 := D.1
  rcases fw_1c wr hc ht with h | ⟨ht, hc1⟩
  · refine st_many R hi XI ek (by decide) (by decide) (by decide) ?_
    rcases h with h | ⟨a, b, c⟩
    · exact Or.inl h
    · exact Or.inr ⟨a, by decide, b, c⟩
  obtain ⟨ew, ea, eb, _, _, fv, _⟩ := F.2.1 i hi
  rw [ek] at ew
  obtain ⟨a, a1, a4, ef⟩ := fv ek
  have es := fw_plain (K := yk) ek (by decide) (by decide) (by decide)
  have hX : ∀ post : SX → Prop, fw_X143 post 2 (xit, xln, xrd, xop, xil, nI c, xml, wr, nI i, nI p, nI (fw_LM yk B s), bby, nI b, sm, nI (t + 1), nI k, nI (fw_RK yk s), nI p, (-1), plc, rch, xk, xf, xs, wh, aa, bb, par, ri, rb, rv, oi, os, ot, inp, lst, mad, vr, sav) → (wpX_item post (xit, xln, xrd, xop, xil, nI c, xml, wr, nI i, nI p, nI (fw_LM yk B s), bby, nI b, sm, nI t, nI k, nI (fw_RK yk s), beg, (-1), plc, rch, xk, xf, xs, wh, aa, bb, par, ri, rb, rv, oi, os, ot, inp, lst, mad, vr, sav)) := fun post H => xi_nc (Or.inl rfl) ew (by omega) ht (fun _ => hc1) H
  have hY : ∀ post : Int32 → SY → Prop, fw_Y113 post (nI i) 2 (yit, nI n, yfd, nI c, ymd, ysa, ytk, nI s.length, nI p, nI b, nI (t + 1), nI k, nI (i + 1), nI p, yrd, yks, yas, ybs, yk, yf, ys, yin, lst, you, vr, yop, ynu, yse, yth) → (wpY_item post (yit, nI n, yfd, nI c, ymd, ysa, ytk, nI s.length, nI p, nI b, nI t, nI k, nI (i + 1), nI p, yrd, yks, yas, ybs, yk, yf, ys, yin, lst, you, vr, yop, ynu, yse, yth) (nI i)) := by
    intro post H
    refine yi_nc (Or.inl rfl) ek (by omega) ht (fun _ z => ?_) H
    rcases M.2 with ⟨e, _⟩ | ⟨_, e, _⟩
    · exact hc1 e
    · exact absurd e z
  have ebb : bb i &&& 7 = ys i &&& 7 := by rw [eb]
  rcases M.2 with ⟨rfl, rfl, eB⟩ | ⟨rfl, rfl, eB⟩
  · obtain ⟨_, hbb, es', hin⟩ := DP_r D
    subst es'
    have hc2 := hc1 rfl
    rcases Nat.lt_or_ge (fw_LM yk B s) (p + fw_more a b) with g | g
    · refine st_fail R hi XI (h := 3) (by decide) (by decide) (pos' := nI p) (bl' := nI b) (bby' := bby) (st' := nI (t + 1)) (yps' := nI p) (ybt' := nI b) (yst' := nI (t + 1)) (ynx' := nI (i + 1)) (sm' := fw_sum yin p) D (fun z => absurd z (by decide)) (fun post H => hX post (x143_bits (by omega) (Or.inl rfl) ?_)) (fun post H => hY post (y113_take (Or.inr (Or.inr rfl)) (by omega) ?_))
      · rw [ea, ef]
        exact xx_bits_r a4 hb7 (by omega) hp (fun _ => br_t (by decide) H) (fun z => absurd z (by omega))
      · exact yy_bits_r M S hl hp (by omega) a4 hb7 ef (fun _ => H) (fun z => absurd z (by omega))
    · obtain ⟨p', b', bby', x, i1, i2, i3, i4, iX, iY⟩ := jj_bits_r (xit := xit) (xln := xln) (xrd := xrd) (xop := xop) (xil := xil) (xml := xml) (lim := nI (fw_LM yk B s)) (st := nI (t + 1)) (tkn := nI k) (dep := nI (fw_RK yk s)) (beg := nI p) (oc := (-1)) (plc := plc) (rch := rch) (xk := xk) (xf := xf) (xs := xs) (wh := wh) (aa := aa) (bb := bb) (par := par) (ri := ri) (rb := rb) (rv := rv) (oi := oi) (os := os) (ot := ot) (inp := inp) (lst := lst) (mad := mad) (vr := vr) (sav := sav) (yit := yit) (ysz := nI n) (yfd := yfd) (ymd := ymd) (ysa := ysa) (ytk := ytk) (ydp := nI s.length) (yst := nI (t + 1)) (yus := nI k) (ynx := nI (i + 1)) (yra := nI p) (yrd := 1) (yks := yks) (yas := yas) (ybs := ybs) (yk := yk) (yf := yf) (ys := ys) (yin := yin) (yli := lst) (you := you) (yva := vr) (yop := yop) (ynu := ynu) (yse := yse) (yth := yth) (a := a) (c := c) (i := i) (L := fw_LM yk B s) hin (by omega) a4 (by omega) hc2 ebb (fw_in7 _) a a 0 0 p b bby (Nat.le_refl _) (by omega) (by decide) hb7 hbb hp g
      refine st_data R hi ht XI es (lst' := upd lst c x) (vr' := upd vr (ys i &&& 7).toNatClampNeg x) (DP_mk (p' := p') (b' := b') (bby' := bby') D (by omega) i3 i4) i2 (k' := k) (c' := c + 1) (by omega) (by omega) (fun post H => hX post (x143_bits (by omega) (Or.inl rfl) ?_)) (fun post H => hY post (y113_take (Or.inr (Or.inr rfl)) (by omega) ?_))
      · rw [ea, ef]
        refine xx_bits_r a4 hb7 (by omega) hp (fun z => absurd z (by omega)) (fun _ => ⟨a + 1, ?_⟩)
        have := iX (fw_X173 post) (br_f (by decide) (nm_r (nI_1 i) H)) (a + 1) (by omega)
        rw [Nat.zero_mul] at this
        exact this
      · exact yy_bits_r M S hl hp (by omega) a4 hb7 ef (fun z => absurd z (by omega)) (fun _ => ⟨a + 1, iY (fw_Yid post) H (a + 1) (by omega)⟩)
  · rcases Nat.lt_or_ge k c with g | g
    · by_cases ok : (lst k).toBitVec.toNat < 2 ^ a
      · rcases Nat.lt_or_ge (fw_LM yk B s) (p + fw_more a b) with g2 | g2
        · refine st_fail R hi XI (h := 3) (by decide) (by decide) (pos' := nI p) (bl' := nI b) (bby' := bby) (st' := nI (t + 1)) (yps' := nI p) (ybt' := nI b) (yst' := nI (t + 1)) (ynx' := nI (i + 1)) (sm' := sm) D (fun z => ⟨rfl, rfl, rfl, rfl⟩) (fun post H => hX post (x143_bits (by omega) (Or.inr ⟨rfl, g, hc⟩) ?_)) (fun post H => hY post (y113_give (Or.inr (Or.inr rfl)) (by omega) ?_))
          · rw [ea, ef]
            exact xx_bits_w a4 hb7 (by omega) hp (by omega) (fun z => absurd ok z) (fun _ _ => br_t (by decide) H) (fun _ z => absurd z (by omega))
          · exact yy_bits_w M S hl hp (by omega) a4 hb7 ef g hc (fw_in7 _) (fun z => absurd ok z) (fun _ _ => H) (fun _ z => absurd z (by omega))
        · have hV : (lst k).toBitVec.toNat < 65536 := Nat.lt_of_lt_of_le ok (fw_p2 a a4)
          have eV : nI (lst k).toBitVec.toNat = lst k := (fw_of32 (lst k)).symm
          obtain ⟨p', b', bby', sm', mad', you', i1, i2, i3, iX, iY⟩ := jj_bits_w (xit := xit) (xln := xln) (xrd := xrd) (xop := xop) (xil := xil) (cnt := nI c) (xml := xml) (lim := nI (fw_LM yk B s)) (st := nI (t + 1)) (dep := nI (fw_RK yk s)) (beg := nI p) (oc := (-1)) (plc := plc) (rch := rch) (xk := xk) (xf := xf) (xs := xs) (wh := wh) (aa := aa) (bb := bb) (par := par) (ri := ri) (rb := rb) (rv := rv) (oi := oi) (os := os) (ot := ot) (inp := inp) (lst := lst) (vr := vr) (sav := sav) (yit := yit) (ysz := nI n) (yfd := yfd) (yls := nI c) (ymd := ymd) (ysa := ysa) (ytk := ytk) (ydp := nI s.length) (yst := nI (t + 1)) (yus := nI (k + 1)) (ynx := nI (i + 1)) (yra := nI p) (yrd := 0) (yks := yks) (yas := yas) (ybs := ybs) (yk := yk) (yf := yf) (ys := ys) (yin := yin) (yli := lst) (yva := upd vr (ys i &&& 7).toNatClampNeg (lst k)) (yop := yop) (ynu := ynu) (yse := yse) (yth := yth) (k := k) (i := i) (L := fw_LM yk B s) (by omega) (by omega) hV ebb (fw_in7 _) a a p b bby sm mad you (Nat.le_refl _) a4 D hp g2
          rw [eV] at iX iY
          refine st_data R hi ht XI es (lst' := lst) (vr' := upd vr (ys i &&& 7).toNatClampNeg (lst k)) i3 i2 (k' := k + 1) (c' := c) (by omega) hc (fun post H => hX post (x143_bits (by omega) (Or.inr ⟨rfl, g, hc⟩) ?_)) (fun post H => hY post (y113_give (Or.inr (Or.inr rfl)) (by omega) ?_))
          · rw [ea, ef]
            exact xx_bits_w a4 hb7 (by omega) hp (by omega) (fun z => absurd ok z) (fun _ z => absurd z (by omega)) (fun _ _ => ⟨a + 1, iX (fw_X173 post) (br_f (by decide) (nm_r (nI_1 i) H)) (a + 1) (by omega)⟩)
          · exact yy_bits_w M S hl hp (by omega) a4 hb7 ef g hc (fw_in7 _) (fun z => absurd ok z) (fun _ z => absurd z (by omega)) (fun _ _ => ⟨a + 1, iY (fun v => fw_Yid post 0 v) H (a + 1) (by omega)⟩)
      · refine st_fail R hi XI (h := 4) (by decide) (by decide) (pos' := nI p) (bl' := nI b) (bby' := bby) (st' := nI (t + 1)) (yps' := nI p) (ybt' := nI b) (yst' := nI (t + 1)) (ynx' := nI (i + 1)) (sm' := sm) D (fun z => ⟨rfl, rfl, rfl, rfl⟩) (fun post H => hX post (x143_bits (by omega) (Or.inr ⟨rfl, g, hc⟩) ?_)) (fun post H => hY post (y113_give (Or.inr (Or.inr rfl)) (by omega) ?_))
        · rw [ea, ef]
          exact xx_bits_w a4 hb7 (by omega) hp (by omega) (fun _ => br_t (by decide) H) (fun z => absurd z ok) (fun z => absurd z ok)
        · exact yy_bits_w M S hl hp (by omega) a4 hb7 ef g hc (fw_in7 _) (fun _ => H) (fun z => absurd z ok) (fun z => absurd z ok)
    · obtain rfl : k = c := by omega
      exact st_fail R hi XI (h := 3) (by decide) (by decide) (pos' := nI p) (bl' := nI b) (bby' := bby) (st' := nI (t + 1)) (yps' := nI p) (ybt' := nI b) (yst' := nI (t + 1)) (ynx' := nI (i + 1)) (sm' := sm) D (fun z => ⟨rfl, rfl, rfl, rfl⟩) (fun post H => hX post (x143_none (Or.inr (Or.inr rfl)) (by omega) H)) (fun post H => hY post (y113_give (Or.inr (Or.inr rfl)) (by omega) (br_t rfl H)))
theorem yp_3 {post : Int32 → SY → Prop} {B p : Nat} {s : List (Nat × Nat)} {t' : List Nat} {v w : Int32} (M : fw_MD wr yrd yfd B) (S : fw_SK yk B yop ynu sav s t') (hl : s.length ≤ 4) (hp : p ≤ fw_LM yk B s)
    (H1 : p < fw_LM yk B s → (wpY_exact (fw_Yid post) (yit, ysz, yfd, yls, ymd, ysa, ytk, nI s.length, nI p, ybt, yst, yus, ynx, yra, yrd, yks, yas, ybs, yk, yf, ys, yin, yli, you, yva, yop, ynu, yse, yth) v 5)) (H0 : p = fw_LM yk B s → post 3 (yit, ysz, yfd, yls, ymd, ysa, ytk, nI s.length, nI p, ybt, yst, yus, ynx, yra, yrd, yks, yas, ybs, yk, yf, ys, yin, yli, you, yva, yop, ynu, yse, yth)) : (wpY_plain post (yit, ysz, yfd, yls, ymd, ysa, ytk, nI s.length, nI p, ybt, yst, yus, ynx, yra, yrd, yks, yas, ybs, yk, yf, ys, yin, yli, you, yva, yop, ynu, yse, yth) 3 v w) :=
  br_f (by decide) (br_f (by decide) (br_t rfl (yy_room (q := 1) M S hl hp (by decide) (fun h => br_f (by decide) (H1 (by omega))) (fun h => br_t rfl (H0 (by omega))))))
theorem yp_7 {post : Int32 → SY → Prop} {B p : Nat} {s : List (Nat × Nat)} {t' : List Nat} {a w : Int32} {f : Nat → Int32} (M : fw_MD wr yrd yfd B) (S : fw_SK yk B yop ynu sav s t') (hl : s.length ≤ 4) (hp : p ≤ fw_LM yk B s) (hf : (yrd = 1 ∧ f = yin) ∨ (yrd = 0 ∧ f = you))
    (H1 : p < fw_LM yk B s → (wpY_exact (fw_Yid post) (yit, ysz, yfd, yls, ymd, ysa, ytk, nI s.length, nI p, ybt, yst, yus, ynx, yra, yrd, yks, yas, ybs, yk, yf, ys, yin, yli, you, yva, yop, ynu, yse, yth) ((a + fw_sum f p) &&& 255) 5)) (H0 : p = fw_LM yk B s → post 3 (yit, ysz, yfd, yls, ymd, ysa, ytk, nI s.length, nI p, ybt, yst, yus, ynx, yra, yrd, yks, yas, ybs, yk, yf, ys, yin, yli, you, yva, yop, ynu, yse, yth)) : (wpY_plain post (yit, ysz, yfd, yls, ymd, ysa, ytk, nI s.length, nI p, ybt, yst, yus, ynx, yra, yrd, yks, yas, ybs, yk, yf, ys, yin, yli, you, yva, yop, ynu, yse, yth) 7 a w) := by
  have hB := fw_LM_le S
  have hB' := M.1
  refine br_f (by decide) (br_f (by decide) (br_f (by decide) (br_f (by decide) (br_f (by decide) (br_f (by decide) (br_t rfl (yy_room (q := 1) M S hl hp (by decide) (fun h => br_f (by decide) ⟨p + 1, ?_⟩) (fun h => br_t rfl (H0 (by omega))))))))))
  have e : a = a + fw_sum f 0 := (Int32.add_zero a).symm
  rw [e]
  exact yy_cks (by omega) hf (H1 (by omega)) p 0 (by omega) (p + 1) (by omega)
/-- a byte that both know -/
theorem st_fix {n B i m p b t k c : Nat} {s : List (Nat × Nat)} (R : (fw_RF n B i m p b t k c s xit xrd xil xml wr bby sm xk xf xs wh aa bb par ri rb rv inp mad sav yit yfd ymd yrd yks yas ybs yk yf ys yin you yop ynu)) (hi : i < n) (XI : ∀ (post : SX → Prop) (q : Nat), (wpX_item (fw_X66 post q) (xit, xln, xrd, xop, xil, nI c, xml, wr, nI i, nI p, nI (fw_LM yk B s), bby, nI b, sm, nI t, nI k, nI (fw_RK yk s), beg, (-1), plc, rch, xk, xf, xs, wh, aa, bb, par, ri, rb, rv, oi, os, ot, inp, lst, mad, vr, sav)) → fw_X66 post (q + 1) (xit, xln, xrd, xop, xil, nI c, xml, wr, nI i, nI p, nI (fw_LM yk B s), bby, nI b, sm, nI t, nI k, nI (fw_RK yk s), beg, (-1), plc, rch, xk, xf, xs, wh, aa, bb, par, ri, rb, rv, oi, os, ot, inp, lst, mad, vr, sav)) {kk v : Int32} (hk : kk = 3 ∨ kk = 7) (ek : yk i = kk) (ht : t < 400) {sm' : Int32} {mad' : Nat → Int32} (D' : (fw_DP wr xml ymd p 0 0 sm' inp mad' yin you))
    (hv : (kk = 3 ∧ v = aa i) ∨ (kk = 7 ∧ v = (aa i + sm') &&& 255)) (hv2 : v = v &&& 255)
    (hX : ∀ post : SX → Prop, fw_X143 post kk (xit, xln, xrd, xop, xil, nI c, xml, wr, nI i, nI p, nI (fw_LM yk B s), 0, nI 0, sm', nI (t + 1), nI k, nI (fw_RK yk s), nI p, (-1), plc, rch, xk, xf, xs, wh, aa, bb, par, ri, rb, rv, oi, os, ot, inp, lst, mad', vr, sav) → (wpX_item post (xit, xln, xrd, xop, xil, nI c, xml, wr, nI i, nI p, nI (fw_LM yk B s), bby, nI b, sm, nI t, nI k, nI (fw_RK yk s), beg, (-1), plc, rch, xk, xf, xs, wh, aa, bb, par, ri, rb, rv, oi, os, ot, inp, lst, mad, vr, sav)))
    (hY : ∀ post : Int32 → SY → Prop, (p < fw_LM yk B s → (wpY_exact (fw_Yid post) (yit, nI n, yfd, nI c, ymd, ysa, ytk, nI s.length, nI p, nI 0, nI (t + 1), nI k, nI (i + 1), nI p, yrd, yks, yas, ybs, yk, yf, ys, yin, lst, you, vr, yop, ynu, yse, yth) v 5)) → (p = fw_LM yk B s → post 3 (yit, nI n, yfd, nI c, ymd, ysa, ytk, nI s.length, nI p, nI 0, nI (t + 1), nI k, nI (i + 1), nI p, yrd, yks, yas, ybs, yk, yf, ys, yin, lst, you, vr, yop, ynu, yse, yth)) → (wpY_item post (yit, nI n, yfd, nI c, ymd, ysa, ytk, nI s.length, nI p, nI b, nI t, nI k, nI (i + 1), nI p, yrd, yks, yas, ybs, yk, yf, ys, yin, lst, you, vr, yop, ynu, yse, yth) (nI i))) : fw_ST wr i m (xit, xln, xrd, xop, xil, nI c, xml, wr, nI i, nI p, nI (fw_LM yk B s), bby, nI b, sm, nI t, nI k, nI (fw_RK yk s), beg, (-1), plc, rch, xk, xf, xs, wh, aa, bb, par, ri, rb, rv, oi, os, ot, inp, lst, mad, vr, sav) (yit, nI n, yfd, nI c, ymd, ysa, ytk, nI s.length, nI p, nI b, nI t, nI k, ynx, yra, yrd, yks, yas, ybs, yk, yf, ys, yin, lst, you, vr, yop, ynu, yse, yth) := by
  have R' := R
  obtain ⟨_, F, M, D, S, _, _, hkc, hc, hp, _⟩ := R'
  have hn := F.1
  have hB := fw_LM_le S
  have hB' := M.1
  have es : fw_st yk (i + 1) = fw_st yk i := by
    rcases hk with rfl | rfl
    · exact fw_plain (K := yk) ek (by decide) (by decide) (by decide)
    · exact fw_plain (K := yk) ek (by decide) (by decide) (by decide)
  rcases Nat.lt_or_ge p (fw_LM yk B s) with g | g
  · rcases M.2 with ⟨rfl, rfl, eB⟩ | ⟨rfl, rfl, eB⟩
    · obtain ⟨_, _, es', hin⟩ := DP_r D'
      subst es'
      by_cases z : yin p = v
      · refine st_data R hi ht XI es (lst' := lst) (vr' := vr) (DP_mk (p' := p + 1) (b' := 0) (bby' := 0) D' (by omega) (by omega) (fun z => absurd z (by omega))) (by omega) hkc hc (fun post H => hX post (x143_fix hv (by omega) hp (by omega) (fun z => absurd z (by omega)) (fun _ => xx_fix_r (by omega) (fun _ => br_f (by decide) (nm_r (nI_1 i) ?_)) (fun q => absurd (by rw [← hin]; exact z) q)))) (fun post H => hY post (fun _ => yy_exact_r (by omega) (fun _ => H) (fun q => absurd z q)) (fun z => absurd z (by omega)))
        rw [← hin]; exact H
      · exact st_fail R hi XI (h := 5) (by decide) (by decide) (pos' := nI (p + 1)) (bl' := nI 0) (bby' := 0) (st' := nI (t + 1)) (yps' := nI p) (ybt' := nI 0) (yst' := nI (t + 1)) (ynx' := nI (i + 1)) (sm' := fw_sum yin p + (inp p &&& 255)) D' (fun z => absurd z (by decide)) (fun post H => hX post (x143_fix hv (by omega) hp (by omega) (fun z => absurd z (by omega)) (fun _ => xx_fix_r (by omega) (fun q => absurd (by rw [hin]; exact q) z) (fun _ => br_t (by decide) H)))) (fun post H => hY post (fun _ => yy_exact_r (by omega) (fun q => absurd q z) (fun _ => H)) (fun z => absurd z (by omega)))
    · exact st_data R hi ht XI es (lst' := lst) (vr' := vr) (fw_DP_em (bby' := 0) D' (g := fun _ => v) (g' := fun _ => v) (k := 1) (by omega) (fun _ => hv2)) (by omega) hkc hc (fun post H => hX post (x143_fix hv (by omega) hp (by omega) (fun z => absurd z (by omega)) (fun _ => xx_fix_w (by omega) (br_f (by decide) (nm_r (nI_1 i) H))))) (fun post H => hY post (fun _ => yy_exact_w (by omega) H) (fun z => absurd z (by omega)))
  · have e : p = fw_LM yk B s := by omega
    exact st_fail R hi XI (h := 3) (by decide) (by decide) (pos' := nI p) (bl' := nI 0) (bby' := 0) (st' := nI (t + 1)) (yps' := nI p) (ybt' := nI 0) (yst' := nI (t + 1)) (ynx' := nI (i + 1)) (sm' := sm') D' (fun z => ⟨rfl, rfl, rfl, rfl⟩) (fun post H => hX post (x143_fix hv (by omega) hp (by omega) (fun _ => H) (fun z => absurd z (by omega)))) (fun post H => hY post (fun z => absurd z (by omega)) (fun _ => H))
theorem st_3 {n B i m p b t k c : Nat} {s : List (Nat × Nat)} (R : (fw_RF n B i m p b t k c s xit xrd xil xml wr bby sm xk xf xs wh aa bb par ri rb rv inp mad sav yit yfd ymd yrd yks yas ybs yk yf ys yin you yop ynu)) (hi : i < n) (XI : ∀ (post : SX → Prop) (q : Nat), (wpX_item (fw_X66 post q) (xit, xln, xrd, xop, xil, nI c, xml, wr, nI i, nI p, nI (fw_LM yk B s), bby, nI b, sm, nI t, nI k, nI (fw_RK yk s), beg, (-1), plc, rch, xk, xf, xs, wh, aa, bb, par, ri, rb, rv, oi, os, ot, inp, lst, mad, vr, sav)) → fw_X66 post (q + 1) (xit, xln, xrd, xop, xil, nI c, xml, wr, nI i, nI p, nI (fw_LM yk B s), bby, nI b, sm, nI t, nI k, nI (fw_RK yk s), beg, (-1), plc, rch, xk, xf, xs, wh, aa, bb, par, ri, rb, rv, oi, os, ot, inp, lst, mad, vr, sav)) (ek : yk i = 3) : fw_ST wr i m (xit, xln, xrd, xop, xil, nI c, xml, wr, nI i, nI p, nI (fw_LM yk B s), bby, nI b, sm, nI t, nI k, nI (fw_RK yk s), beg, (-1), plc, rch, xk, xf, xs, wh, aa, bb, par, ri, rb, rv, oi, os, ot, inp, lst, mad, vr, sav) (yit, nI n, yfd, nI c, ymd, ysa, ytk, nI s.length, nI p, nI b, nI t, nI k, ynx, yra, yrd, yks, yas, ybs, yk, yf, ys, yin, lst, you, vr, yop, ynu, yse, yth) := by
  have hl := fw_len R
  have R' := R
  obtain ⟨_, F, M, D, S, _, ht, hk, hc, hp, _⟩ := R'
  have hn := F.1
  rcases Nat.lt_or_ge t 400 with ht' | ht'
  rotate_left
  · exact st_many R hi XI ek (by decide) (by decide) (by decide) (Or.inl (by omega))
  obtain ⟨_, ea, eb, _, _, _, fv, _⟩ := F.2.1 i hi
  obtain ⟨a, a4, ef⟩ := fv ek
  rcases st_close R hi ht' XI ek (Or.inr (Or.inr (Or.inl rfl))) (fun z => absurd z (by decide)) with ⟨sm', mad', D', hX, hY⟩ | h
  rotate_left
  · exact h
  refine st_fix R hi XI (kk := 3) (v := aa i) (Or.inl rfl) ek ht' D' (Or.inl ⟨rfl, rfl⟩) ?_ hX (fun post H1 H0 => hY post (y113_plain (Or.inl rfl) (by omega) (yp_3 M S hl hp ?_ H0)))
  · rw [ea, ef, pk_andN (by omega) 8 (by decide), Nat.mod_eq_of_lt (by omega)]
  · rw [← ea]; exact H1
theorem st_7 {n B i m p b t k c : Nat} {s : List (Nat × Nat)} (R : (fw_RF n B i m p b t k c s xit xrd xil xml wr bby sm xk xf xs wh aa bb par ri rb rv inp mad sav yit yfd ymd yrd yks yas ybs yk yf ys yin you yop ynu)) (hi : i < n) (XI : ∀ (post : SX → Prop) (q : Nat), (wpX_item (fw_X66 post q) (xit, xln, xrd, xop, xil, nI c, xml, wr, nI i, nI p, nI (fw_LM yk B s), bby, nI b, sm, nI t, nI k, nI (fw_RK yk s), beg, (-1), plc, rch, xk, xf, xs, wh, aa, bb, par, ri, rb, rv, oi, os, ot, inp, lst, mad, vr, sav)) → fw_X66 post (q + 1) (xit, xln, xrd, xop, xil, nI c, xml, wr, nI i, nI p, nI (fw_LM yk B s), bby, nI b, sm, nI t, nI k, nI (fw_RK yk s), beg, (-1), plc, rch, xk, xf, xs, wh, aa, bb, par, ri, rb, rv, oi, os, ot, inp, lst, mad, vr, sav)) (ek : yk i = 7) : fw_ST wr i m (xit, xln, xrd, xop, xil, nI c, xml, wr, nI i, nI p, nI (fw_LM yk B s), bby, nI b, sm, nI t, nI k, nI (fw_RK yk s), beg, (-1), plc, rch, xk, xf, xs, wh, aa, bb, par, ri, rb, rv, oi, os, ot, inp, lst, mad, vr, sav) (yit, nI n, yfd, nI c, ymd, ysa, ytk, nI s.length, nI p, nI b, nI t, nI k, ynx, yra, yrd, yks, yas, ybs, yk, yf, ys, yin, lst, you, vr, yop, ynu, yse, yth) := by
  have hl := fw_len R
  have R' := R
  obtain ⟨_, F, M, D, S, _, ht, hk, hc, hp, _⟩ := R'
  have hn := F.1
  rcases Nat.lt_or_ge t 400 with ht' | ht'
  rotate_left
  · exact st_many R hi XI ek (by decide) (by decide) (by decide) (Or.inl (by omega))
  obtain ⟨_, ea, eb, _⟩ := F.2.1 i hi
  rcases st_close R hi ht' XI ek (Or.inr (Or.inr (Or.inr (Or.inr (Or.inl rfl))))) (fun z => absurd z (by decide)) with ⟨sm', mad', D', hX, hY⟩ | h
  rotate_left
  · exact h
  obtain ⟨f, hf, esm⟩ : ∃ f : Nat → Int32, ((yrd = 1 ∧ f = yin) ∨ (yrd = 0 ∧ f = you)) ∧ sm' = fw_sum f p := by
    obtain ⟨_, _, _, _, ⟨w, _, e, _⟩ | ⟨w, _, e, _⟩⟩ := D'
    · refine ⟨yin, Or.inl ⟨?_, rfl⟩, e⟩
      rcases M.2 with ⟨_, h, _⟩ | ⟨h, _⟩
      · exact h
      · rw [w] at h; exact absurd h (by decide)
    · refine ⟨you, Or.inr ⟨?_, rfl⟩, e⟩
      rcases M.2 with ⟨h, _⟩ | ⟨_, h, _⟩
      · rw [w] at h; exact absurd h (by decide)
      · exact h
  refine st_fix R hi XI (kk := 7) (v := (aa i + sm') &&& 255) (Or.inr rfl) ek ht' D' (Or.inr ⟨rfl, rfl⟩) ?_ hX (fun post H1 H0 => hY post (y113_plain (Or.inr (Or.inl rfl)) (by omega) (yp_7 M S hl hp hf ?_ H0)))
  · exact b_ext (fun j _ => by rw [b_and, b_and, b_and, Bool.and_assoc, Bool.and_self])
  · rw [← ea, ← esm]; exact H1
theorem st_8 {n B i m p b t k c : Nat} {s : List (Nat × Nat)} (R : (fw_RF n B i m p b t k c s xit xrd xil xml wr bby sm xk xf xs wh aa bb par ri rb rv inp mad sav yit yfd ymd yrd yks yas ybs yk yf ys yin you yop ynu)) (hi : i < n) (XI : ∀ (post : SX → Prop) (q : Nat), (wpX_item (fw_X66 post q) (xit, xln, xrd, xop, xil, nI c, xml, wr, nI i, nI p, nI (fw_LM yk B s), bby, nI b, sm, nI t, nI k, nI (fw_RK yk s), beg, (-1), plc, rch, xk, xf, xs, wh, aa, bb, par, ri, rb, rv, oi, os, ot, inp, lst, mad, vr, sav)) → fw_X66 post (q + 1) (xit, xln, xrd, xop, xil, nI c, xml, wr, nI i, nI p, nI (fw_LM yk B s), bby, nI b, sm, nI t, nI k, nI (fw_RK yk s), beg, (-1), plc, rch, xk, xf, xs, wh, aa, bb, par, ri, rb, rv, oi, os, ot, inp, lst, mad, vr, sav)) (ek : yk i = 8) : fw_ST wr i m (xit, xln, xrd, xop, xil, nI c, xml, wr, nI i, nI p, nI (fw_LM yk B s), bby, nI b, sm, nI t, nI k, nI (fw_RK yk s), beg, (-1), plc, rch, xk, xf, xs, wh, aa, bb, par, ri, rb, rv, oi, os, ot, inp, lst, mad, vr, sav) (yit, nI n, yfd, nI c, ymd, ysa, ytk, nI s.length, nI p, nI b, nI t, nI k, ynx, yra, yrd, yks, yas, ybs, yk, yf, ys, yin, lst, you, vr, yop, ynu, yse, yth) := by
  have hl := fw_len R
  have R' := R
  obtain ⟨_, F, M, D, S, _, ht, hkc, hc, hp, _⟩ := R'
  have hn := F.1
  have hB := fw_LM_le S
  have hB' := M.1
  rcases Nat.lt_or_ge t 400 with ht' | ht'
  rotate_left
  · exact st_many R hi XI ek (by decide) (by decide) (by decide) (Or.inl (by omega))
  obtain ⟨_, ea, eb, _, _, _, _, fv⟩ := F.2.1 i hi
  obtain ⟨a, a2, a8, ef⟩ := fv ek
  have es := fw_plain (K := yk) ek (by decide) (by decide) (by decide)
  have hq := fw_al_le (p := p) a2
  have eq := fw_al_eq (p := p) a2 a8 (by omega)
  have ha0 : ¬ nI a = 0 := nI_ne0 (by omega) (by omega)
  rcases st_close R hi ht' XI ek (Or.inr (Or.inr (Or.inr (Or.inr (Or.inr rfl))))) (fun z => absurd z (by decide)) with ⟨sm', mad', D', hX, hY⟩ | h
  rotate_left
  · exact h
  have GX : ∀ post : SX → Prop, (p + fw_al a p ≤ fw_LM yk B s → ∃ n32, (wX_align_32 (fw_X173 post) (nI (fw_al a p)) n32 0 xit xln xrd xop xil (nI c) xml wr (nI i) (nI p) (nI (fw_LM yk B s)) 0 (nI 0) sm' (nI (t + 1)) (nI k) (nI (fw_RK yk s)) (nI p) (-1) plc rch xk xf xs wh aa bb par ri rb rv oi os ot inp lst mad' vr sav)) → (fw_LM yk B s < p + fw_al a p → post (xit, xln, xrd, xop, xil, nI c, xml, wr, nI i, nI p, nI (fw_LM yk B s), 0, nI 0, sm', nI (t + 1), nI k, nI (fw_RK yk s), nI p, 3, nI i, nI p, xk, xf, xs, wh, aa, bb, par, ri, rb, rv, oi, os, ot, inp, lst, mad', vr, sav)) → (wpX_item post (xit, xln, xrd, xop, xil, nI c, xml, wr, nI i, nI p, nI (fw_LM yk B s), bby, nI b, sm, nI t, nI k, nI (fw_RK yk s), beg, (-1), plc, rch, xk, xf, xs, wh, aa, bb, par, ri, rb, rv, oi, os, ot, inp, lst, mad, vr, sav)) := by
    intro post H1 H0
    refine hX post (x143_al (by omega) ?_)
    rw [ea, ef]
    refine And.intro ha0 (And.intro ha0 (nm_r eq ?_))
    rw [nI_add]
    exact pk_le (p + fw_al a p) (fw_LM yk B s) H1 (fun h => xx_end (by decide) (br_t (by decide) (H0 h)))
  have GY : ∀ post : Int32 → SY → Prop, (p + fw_al a p ≤ fw_LM yk B s → ∃ n147, (wY_plain_147 (fw_Yid post) (nI (fw_al a p)) n147 0 yit (nI n) yfd (nI c) ymd ysa ytk (nI s.length) (nI p) (nI 0) (nI (t + 1)) (nI k) (nI (i + 1)) (nI p) yrd yks yas ybs yk yf ys yin lst you vr yop ynu yse yth)) → (fw_LM yk B s < p + fw_al a p → post 3 (yit, nI n, yfd, nI c, ymd, ysa, ytk, nI s.length, nI p, nI 0, nI (t + 1), nI k, nI (i + 1), nI p, yrd, yks, yas, ybs, yk, yf, ys, yin, lst, you, vr, yop, ynu, yse, yth)) → (wpY_item post (yit, nI n, yfd, nI c, ymd, ysa, ytk, nI s.length, nI p, nI b, nI t, nI k, nI (i + 1), nI p, yrd, yks, yas, ybs, yk, yf, ys, yin, lst, you, vr, yop, ynu, yse, yth) (nI i)) := by
    intro post H1 H0
    refine hY post (y113_plain (Or.inr (Or.inr (Or.inl rfl))) (by omega) ?_)
    rw [ef]
    exact br_f (by decide) (br_f (by decide) (br_f (by decide) (br_f (by decide) (br_f (by decide) (br_f (by decide) (br_f (by decide) (br_t rfl (And.intro ha0 (And.intro ha0 (nm_r eq (yy_room M S hl hp (by omega) (fun h => br_f (by decide) (H1 h)) (fun h => br_t rfl (H0 h)))))))))))))
  rcases Nat.lt_or_ge (fw_LM yk B s) (p + fw_al a p) with g | g
  · exact st_fail R hi XI (h := 3) (by decide) (by decide) (pos' := nI p) (bl' := nI 0) (bby' := 0) (st' := nI (t + 1)) (yps' := nI p) (ybt' := nI 0) (yst' := nI (t + 1)) (ynx' := nI (i + 1)) (sm' := sm') D' (fun z => ⟨rfl, rfl, rfl, rfl⟩) (fun post H => GX post (fun z => absurd z (by omega)) (fun _ => H)) (fun post H => GY post (fun z => absurd z (by omega)) (fun _ => H))
  · rcases M.2 with ⟨rfl, rfl, eB⟩ | ⟨rfl, rfl, eB⟩
    · obtain ⟨_, _, es', hin⟩ := DP_r D'
      subst es'
      rcases jj_al_r (xit := xit) (xln := xln) (xrd := xrd) (xop := xop) (xil := xil) (cnt := nI c) (xml := xml) (pc := nI i) (lim := nI (fw_LM yk B s)) (bby := 0) (bl := nI 0) (st := nI (t + 1)) (tkn := nI k) (dep := nI (fw_RK yk s)) (beg := nI p) (plc := plc) (rch := rch) (xk := xk) (xf := xf) (xs := xs) (wh := wh) (aa := aa) (bb := bb) (par := par) (ri := ri) (rb := rb) (rv := rv) (oi := oi) (os := os) (ot := ot) (inp := inp) (lst := lst) (mad := mad') (vr := vr) (sav := sav) (yit := yit) (ysz := nI n) (yfd := yfd) (yls := nI c) (ymd := ymd) (ysa := ysa) (ytk := ytk) (ydp := nI s.length) (ybt := nI 0) (yst := nI (t + 1)) (yus := nI k) (ynx := nI (i + 1)) (yra := nI p) (yks := yks) (yas := yas) (ybs := ybs) (yk := yk) (yf := yf) (ys := ys) (yin := yin) (yli := lst) (you := you) (yva := vr) (yop := yop) (ynu := ynu) (yse := yse) (yth := yth) (q := fw_al a p) (p := p) hin (by omega) (fw_al a p) 0 (by omega) with ⟨jX, jY⟩ | ⟨p', s', y', jX, jY⟩
      · exact st_data R hi ht' XI es (lst' := lst) (vr' := vr) (DP_mk (p' := p + fw_al a p) (b' := 0) (bby' := 0) D' (by omega) (by omega) (fun z => absurd z (by omega))) g hkc hc (fun post H => GX post (fun _ => ⟨fw_al a p + 1, jX (fw_X173 post) (br_f (by decide) (nm_r (nI_1 i) H)) _ (by omega)⟩) (fun z => absurd z (by omega))) (fun post H => GY post (fun _ => ⟨fw_al a p + 1, jY (fw_Yid post) H _ (by omega)⟩) (fun z => absurd z (by omega)))
      · exact st_fail R hi XI (h := 6) (by decide) (by decide) (pos' := p') (bl' := nI 0) (bby' := 0) (st' := nI (t + 1)) (yps' := y') (ybt' := nI 0) (yst' := nI (t + 1)) (ynx' := nI (i + 1)) (sm' := s') D' (fun z => absurd z (by decide)) (fun post H => GX post (fun _ => ⟨fw_al a p + 1, jX (fw_X173 post) (br_t (by decide) H) _ (by omega)⟩) (fun z => absurd z (by omega))) (fun post H => GY post (fun _ => ⟨fw_al a p + 1, jY (fw_Yid post) H _ (by omega)⟩) (fun z => absurd z (by omega)))
    · exact st_data R hi ht' XI es (lst' := lst) (vr' := vr) (fw_DP_em (bby' := 0) D' (g := fun _ => 0) (g' := fun _ => 0) (k := fw_al a p) (by omega) (fun _ => by decide)) g hkc hc (fun post H => GX post (fun _ => ⟨fw_al a p + 1, xx_al_w (q := fw_al a p) (by omega) (br_f (by decide) (nm_r (nI_1 i) H)) (fw_al a p) 0 (by omega) _ (by omega)⟩) (fun z => absurd z (by omega))) (fun post H => GY post (fun _ => ⟨fw_al a p + 1, yy_al_w (q := fw_al a p) (by omega) H (fw_al a p) 0 (by omega) _ (by omega)⟩) (fun z => absurd z (by omega)))
/-! variables -/
theorem xc_9 {post : SX → Prop} {i : Nat} (hi : i < 41) (H0 : 0 ≤ vr (bb i &&& 7).toNatClampNeg → vr (bb i &&& 7).toNatClampNeg ≤ aa i → post (xit, xln, xrd, xop, xil, cnt, xml, wr, nI (i + 1), pos, lim, bby, bl, sm, st, tkn, dep, beg, oc, plc, rch, xk, xf, xs, wh, aa, bb, par, ri, rb, rv, oi, os, ot, inp, lst, mad, vr, sav)) (H1 : ¬ (0 ≤ vr (bb i &&& 7).toNatClampNeg ∧ vr (bb i &&& 7).toNatClampNeg ≤ aa i) → post (xit, xln, xrd, xop, xil, cnt, xml, wr, nI i, pos, lim, bby, bl, sm, st, tkn, dep, beg, 4, nI i, beg, xk, xf, xs, wh, aa, bb, par, ri, rb, rv, oi, os, ot, inp, lst, mad, vr, sav)) : (wpX_control post (xit, xln, xrd, xop, xil, cnt, xml, wr, nI i, pos, lim, bby, bl, sm, st, tkn, dep, beg, oc, plc, rch, xk, xf, xs, wh, aa, bb, par, ri, rb, rv, oi, os, ot, inp, lst, mad, vr, sav) 9) := by
  have hpc : vp_in (nI i) 41 := vp_in_nI hi (by decide)
  have ci : (nI i).toNatClampNeg = i := nI_clamp (by omega)
  refine And.intro hpc (nm_r (e' := bb i &&& 7) (by rw [ci]) (And.intro hpc (nm_r (e' := aa i) (by rw [ci]) ?_)))
  refine br_f (by decide) (br_f (by decide) (br_f (by decide) (br_f (by decide) (br_f (by decide) (br_f (by decide) (br_f (by decide) (br_t rfl (And.intro (fw_in7 _) (xx_out (fun a b => br_t rfl (nm_r (nI_1 i) (H0 a b))) (fun z => br_f (by decide) (xx_end (by decide) (H1 z)))))))))))) 
theorem xc_10 {post : SX → Prop} {i : Nat} (hi : i < 41) (H : post (xit, xln, xrd, xop, xil, cnt, xml, wr, nI (i + 1), pos, lim, bby, bl, sm, st, tkn, dep, beg, oc, plc, rch, xk, xf, xs, wh, aa, bb, par, ri, rb, rv, oi, os, ot, inp, lst, mad, upd vr (bb i &&& 7).toNatClampNeg (aa i), sav)) : (wpX_control post (xit, xln, xrd, xop, xil, cnt, xml, wr, nI i, pos, lim, bby, bl, sm, st, tkn, dep, beg, oc, plc, rch, xk, xf, xs, wh, aa, bb, par, ri, rb, rv, oi, os, ot, inp, lst, mad, vr, sav) 10) := by
  have hpc : vp_in (nI i) 41 := vp_in_nI hi (by decide)
  have ci : (nI i).toNatClampNeg = i := nI_clamp (by omega)
  refine And.intro hpc (nm_r (e' := bb i &&& 7) (by rw [ci]) (And.intro hpc (nm_r (e' := aa i) (by rw [ci]) ?_)))
  exact br_f (by decide) (br_f (by decide) (br_f (by decide) (br_f (by decide) (br_f (by decide) (br_f (by decide) (br_f (by decide) (br_f (by decide) (br_t rfl (And.intro (fw_in7 _) (nm_e (nm_r (nI_1 i) H)))))))))))
theorem xc_11 {post : SX → Prop} {i : Nat} (hi : i < 41) (H : post (xit, xln, xrd, xop, xil, cnt, xml, wr, nI (i + 1), pos, lim, bby, bl, sm, st, tkn, dep, beg, oc, plc, rch, xk, xf, xs, wh, aa, bb, par, ri, rb, rv, oi, os, ot, inp, lst, mad, upd vr (bb i &&& 7).toNatClampNeg (vr (bb i &&& 7).toNatClampNeg + aa i), sav)) : (wpX_control post (xit, xln, xrd, xop, xil, cnt, xml, wr, nI i, pos, lim, bby, bl, sm, st, tkn, dep, beg, oc, plc, rch, xk, xf, xs, wh, aa, bb, par, ri, rb, rv, oi, os, ot, inp, lst, mad, vr, sav) 11) := by
  have hpc : vp_in (nI i) 41 := vp_in_nI hi (by decide)
  have ci : (nI i).toNatClampNeg = i := nI_clamp (by omega)
  refine And.intro hpc (nm_r (e' := bb i &&& 7) (by rw [ci]) (And.intro hpc (nm_r (e' := aa i) (by rw [ci]) ?_)))
  exact br_f (by decide) (br_f (by decide) (br_f (by decide) (br_f (by decide) (br_f (by decide) (br_f (by decide) (br_f (by decide) (br_f (by decide) (br_f (by decide) (br_t rfl (And.intro (fw_in7 _) (And.intro (fw_in7 _) (nm_e (nm_r (nI_1 i) H)))))))))))))
theorem st_var {n B i m p b t k c : Nat} {s : List (Nat × Nat)} (R : (fw_RF n B i m p b t k c s xit xrd xil xml wr bby sm xk xf xs wh aa bb par ri rb rv inp mad sav yit yfd ymd yrd yks yas ybs yk yf ys yin you yop ynu)) (hi : i < n) (XI : ∀ (post : SX → Prop) (q : Nat), (wpX_item (fw_X66 post q) (xit, xln, xrd, xop, xil, nI c, xml, wr, nI i, nI p, nI (fw_LM yk B s), bby, nI b, sm, nI t, nI k, nI (fw_RK yk s), beg, (-1), plc, rch, xk, xf, xs, wh, aa, bb, par, ri, rb, rv, oi, os, ot, inp, lst, mad, vr, sav)) → fw_X66 post (q + 1) (xit, xln, xrd, xop, xil, nI c, xml, wr, nI i, nI p, nI (fw_LM yk B s), bby, nI b, sm, nI t, nI k, nI (fw_RK yk s), beg, (-1), plc, rch, xk, xf, xs, wh, aa, bb, par, ri, rb, rv, oi, os, ot, inp, lst, mad, vr, sav)) {kk : Int32} (hkk : kk = 9 ∨ kk = 10 ∨ kk = 11) (ek : yk i = kk) : fw_ST wr i m (xit, xln, xrd, xop, xil, nI c, xml, wr, nI i, nI p, nI (fw_LM yk B s), bby, nI b, sm, nI t, nI k, nI (fw_RK yk s), beg, (-1), plc, rch, xk, xf, xs, wh, aa, bb, par, ri, rb, rv, oi, os, ot, inp, lst, mad, vr, sav) (yit, nI n, yfd, nI c, ymd, ysa, ytk, nI s.length, nI p, nI b, nI t, nI k, ynx, yra, yrd, yks, yas, ybs, yk, yf, ys, yin, lst, you, vr, yop, ynu, yse, yth) := by
  have R' := R
  obtain ⟨_, F, M, D, S, _, ht, hkc, hc, hp, _⟩ := R'
  have hn := F.1
  rcases Nat.lt_or_ge t 400 with ht' | ht'
  rotate_left
  · rcases hkk with rfl | rfl | rfl <;> exact st_many R hi XI ek (by decide) (by decide) (by decide) (Or.inl (by omega))
  obtain ⟨ew, ea, eb, _⟩ := F.2.1 i hi
  rw [ek] at ew
  rcases hkk with rfl | rfl | rfl
  · have es := fw_plain (K := yk) ek (by decide) (by decide) (by decide)
    have hX : ∀ post : SX → Prop, fw_X143 post 9 (xit, xln, xrd, xop, xil, nI c, xml, wr, nI i, nI p, nI (fw_LM yk B s), bby, nI b, sm, nI (t + 1), nI k, nI (fw_RK yk s), nI p, (-1), plc, rch, xk, xf, xs, wh, aa, bb, par, ri, rb, rv, oi, os, ot, inp, lst, mad, vr, sav) → (wpX_item post (xit, xln, xrd, xop, xil, nI c, xml, wr, nI i, nI p, nI (fw_LM yk B s), bby, nI b, sm, nI t, nI k, nI (fw_RK yk s), beg, (-1), plc, rch, xk, xf, xs, wh, aa, bb, par, ri, rb, rv, oi, os, ot, inp, lst, mad, vr, sav)) := fun post H => xi_nc (Or.inr (Or.inr (Or.inr (Or.inl rfl)))) ew (by omega) ht' (fun z => absurd z (by decide)) H
    have hY : ∀ post : Int32 → SY → Prop, fw_Y113 post (nI i) 9 (yit, nI n, yfd, nI c, ymd, ysa, ytk, nI s.length, nI p, nI b, nI (t + 1), nI k, nI (i + 1), nI p, yrd, yks, yas, ybs, yk, yf, ys, yin, lst, you, vr, yop, ynu, yse, yth) → (wpY_item post (yit, nI n, yfd, nI c, ymd, ysa, ytk, nI s.length, nI p, nI b, nI t, nI k, nI (i + 1), nI p, yrd, yks, yas, ybs, yk, yf, ys, yin, lst, you, vr, yop, ynu, yse, yth) (nI i)) := fun post H => yi_nc (Or.inr (Or.inr (Or.inr (Or.inl rfl)))) ek (by omega) ht' (fun z => absurd z (by decide)) H
    by_cases z : 0 ≤ vr (bb i &&& 7).toNatClampNeg ∧ vr (bb i &&& 7).toNatClampNeg ≤ aa i
    · refine st_data R hi ht' XI es (lst' := lst) (vr' := vr) D hp hkc hc (fun post H => hX post (x143_ctl (Or.inr (Or.inr (Or.inr (Or.inl rfl)))) (xc_9 (by omega) (fun _ _ => H) (fun w => absurd z w)))) (fun post H => hY post (y113_plain (Or.inr (Or.inr (Or.inr (Or.inl rfl)))) (by omega) ?_))
      rw [ea, eb] at z
      exact br_f (by decide) (br_f (by decide) (br_f (by decide) (br_f (by decide) (br_f (by decide) (br_f (by decide) (br_f (by decide) (br_f (by decide) (br_t rfl (And.intro (fw_in7 _) (yy_win (fun _ _ => br_f (by decide) H) (fun w => absurd z w)))))))))))
    · refine st_fail R hi XI (h := 4) (by decide) (by decide) (pos' := nI p) (bl' := nI b) (bby' := bby) (st' := nI (t + 1)) (yps' := nI p) (ybt' := nI b) (yst' := nI (t + 1)) (ynx' := nI (i + 1)) (sm' := sm) D (fun z => ⟨rfl, rfl, rfl, rfl⟩) (fun post H => hX post (x143_ctl (Or.inr (Or.inr (Or.inr (Or.inl rfl)))) (xc_9 (by omega) (fun a b => absurd ⟨a, b⟩ z) (fun _ => H)))) (fun post H => hY post (y113_plain (Or.inr (Or.inr (Or.inr (Or.inl rfl)))) (by omega) ?_))
      rw [ea, eb] at z
      exact br_f (by decide) (br_f (by decide) (br_f (by decide) (br_f (by decide) (br_f (by decide) (br_f (by decide) (br_f (by decide) (br_f (by decide) (br_t rfl (And.intro (fw_in7 _) (yy_win (fun a b => absurd ⟨a, b⟩ z) (fun _ => br_t rfl H))))))))))) 
  · have es := fw_plain (K := yk) ek (by decide) (by decide) (by decide)
    have hX : ∀ post : SX → Prop, fw_X143 post 10 (xit, xln, xrd, xop, xil, nI c, xml, wr, nI i, nI p, nI (fw_LM yk B s), bby, nI b, sm, nI (t + 1), nI k, nI (fw_RK yk s), nI p, (-1), plc, rch, xk, xf, xs, wh, aa, bb, par, ri, rb, rv, oi, os, ot, inp, lst, mad, vr, sav) → (wpX_item post (xit, xln, xrd, xop, xil, nI c, xml, wr, nI i, nI p, nI (fw_LM yk B s), bby, nI b, sm, nI t, nI k, nI (fw_RK yk s), beg, (-1), plc, rch, xk, xf, xs, wh, aa, bb, par, ri, rb, rv, oi, os, ot, inp, lst, mad, vr, sav)) := fun post H => xi_nc (Or.inr (Or.inr (Or.inr (Or.inr (Or.inl rfl))))) ew (by omega) ht' (fun z => absurd z (by decide)) H
    have hY : ∀ post : Int32 → SY → Prop, fw_Y113 post (nI i) 10 (yit, nI n, yfd, nI c, ymd, ysa, ytk, nI s.length, nI p, nI b, nI (t + 1), nI k, nI (i + 1), nI p, yrd, yks, yas, ybs, yk, yf, ys, yin, lst, you, vr, yop, ynu, yse, yth) → (wpY_item post (yit, nI n, yfd, nI c, ymd, ysa, ytk, nI s.length, nI p, nI b, nI t, nI k, nI (i + 1), nI p, yrd, yks, yas, ybs, yk, yf, ys, yin, lst, you, vr, yop, ynu, yse, yth) (nI i)) := fun post H => yi_nc (Or.inr (Or.inr (Or.inr (Or.inr (Or.inl rfl))))) ek (by omega) ht' (fun z => absurd z (by decide)) H
    refine st_data R hi ht' XI es (lst' := lst) (vr' := upd vr (ys i &&& 7).toNatClampNeg (yf i)) D hp hkc hc (fun post H => hX post (x143_ctl (Or.inr (Or.inr (Or.inr (Or.inr (Or.inl rfl))))) (xc_10 (by omega) ?_))) (fun post H => hY post (y113_plain (Or.inr (Or.inr (Or.inr (Or.inr (Or.inl rfl))))) (by omega) ?_))
    · rw [ea, eb]; exact H
    · exact br_f (by decide) (br_f (by decide) (br_f (by decide) (br_f (by decide) (br_f (by decide) (br_f (by decide) (br_f (by decide) (br_f (by decide) (br_f (by decide) (br_t rfl (And.intro (fw_in7 _) (nm_e H)))))))))))
  · have es := fw_plain (K := yk) ek (by decide) (by decide) (by decide)
    have hX : ∀ post : SX → Prop, fw_X143 post 11 (xit, xln, xrd, xop, xil, nI c, xml, wr, nI i, nI p, nI (fw_LM yk B s), bby, nI b, sm, nI (t + 1), nI k, nI (fw_RK yk s), nI p, (-1), plc, rch, xk, xf, xs, wh, aa, bb, par, ri, rb, rv, oi, os, ot, inp, lst, mad, vr, sav) → (wpX_item post (xit, xln, xrd, xop, xil, nI c, xml, wr, nI i, nI p, nI (fw_LM yk B s), bby, nI b, sm, nI t, nI k, nI (fw_RK yk s), beg, (-1), plc, rch, xk, xf, xs, wh, aa, bb, par, ri, rb, rv, oi, os, ot, inp, lst, mad, vr, sav)) := fun post H => xi_nc (Or.inr (Or.inr (Or.inr (Or.inr (Or.inr rfl))))) ew (by omega) ht' (fun z => absurd z (by decide)) H
    have hY : ∀ post : Int32 → SY → Prop, fw_Y113 post (nI i) 11 (yit, nI n, yfd, nI c, ymd, ysa, ytk, nI s.length, nI p, nI b, nI (t + 1), nI k, nI (i + 1), nI p, yrd, yks, yas, ybs, yk, yf, ys, yin, lst, you, vr, yop, ynu, yse, yth) → (wpY_item post (yit, nI n, yfd, nI c, ymd, ysa, ytk, nI s.length, nI p, nI b, nI t, nI k, nI (i + 1), nI p, yrd, yks, yas, ybs, yk, yf, ys, yin, lst, you, vr, yop, ynu, yse, yth) (nI i)) := fun post H => yi_nc (Or.inr (Or.inr (Or.inr (Or.inr (Or.inr rfl))))) ek (by omega) ht' (fun z => absurd z (by decide)) H
    refine st_data R hi ht' XI es (lst' := lst) (vr' := upd vr (ys i &&& 7).toNatClampNeg (vr (ys i &&& 7).toNatClampNeg + yf i)) D hp hkc hc (fun post H => hX post (x143_ctl (Or.inr (Or.inr (Or.inr (Or.inr (Or.inr (Or.inl rfl)))))) (xc_11 (by omega) ?_))) (fun post H => hY post (y113_plain (Or.inr (Or.inr (Or.inr (Or.inr (Or.inr rfl))))) (by omega) ?_))
    · rw [ea, eb]; exact H
    · exact br_f (by decide) (br_t (by decide) (And.intro (fw_in7 _) (And.intro (fw_in7 _) (nm_e H))))
end
section
/-! the items that begin, part and close -/
variable {xit xln xrd xop xil cnt xml wr pc pos lim bby bl sm st tkn dep beg oc plc rch : Int32} {xk xf xs wh aa bb par ri rb rv oi os ot inp lst mad vr sav : Nat → Int32} {yit ysz yfd yls ymd ysa ytk ydp yps ybt yst yus ynx yra yrd : Int32} {yks yas ybs yk yf ys yin yli you yva yop ynu yse yth : Nat → Int32}
theorem fw_op_iff (k : Int32) : (k = 4 ∨ k = 5 ∨ k = 6) ↔ (¬ k < 4 ∧ ¬ 6 < k) := by
  rw [Int32.lt_iff_toInt_lt, Int32.lt_iff_toInt_lt, ← Int32.toInt_inj, ← Int32.toInt_inj, ← Int32.toInt_inj, show (4 : Int32).toInt = 4 from by decide, show (5 : Int32).toInt = 5 from by decide, show (6 : Int32).toInt = 6 from by decide]
  omega
/-! the reference seeks an END or an ELSE -/
theorem yy_eo1 {post : Int32 → Prop} {c j q : Nat} (hJ : j + 1 < 40) (hc : c ≤ 40) (Ho : (yk (j + 1) = 4 ∨ yk (j + 1) = 5 ∨ yk (j + 1) = 6) → (wY_endOf_4 post yit ysz yfd yls ymd ysa ytk ydp yps ybt yst yus ynx yra yrd yks yas ybs yk yf ys yin yli you yva yop ynu yse yth q (nI (c + 1 + 1)) (nI (j + 1)))) (He : yk (j + 1) = 13 → (wY_endOf_4 post yit ysz yfd yls ymd ysa ytk ydp yps ybt yst yus ynx yra yrd yks yas ybs yk yf ys yin yli you yva yop ynu yse yth q (nI c) (nI (j + 1))))
    (Hn : ¬ (yk (j + 1) = 4 ∨ yk (j + 1) = 5 ∨ yk (j + 1) = 6) → ¬ yk (j + 1) = 13 → (wY_endOf_4 post yit ysz yfd yls ymd ysa ytk ydp yps ybt yst yus ynx yra yrd yks yas ybs yk yf ys yin yli you yva yop ynu yse yth q (nI (c + 1)) (nI (j + 1)))) : (wY_endOf_4 post yit ysz yfd yls ymd ysa ytk ydp yps ybt yst yus ynx yra yrd yks yas ybs yk yf ys yin yli you yva yop ynu yse yth (q + 1) (nI (c + 1)) (nI j)) := by
  have hin : vp_in (nI (j + 1)) 40 := vp_in_nI hJ (by decide)
  have cj : (nI (j + 1)).toNatClampNeg = j + 1 := nI_clamp (by omega)
  refine br_f (nI_nle (by omega) (by omega)) (nm_r (nI_1 j) (And.intro hin ?_))
  have G : ¬ (yk (j + 1) = 4 ∨ yk (j + 1) = 5 ∨ yk (j + 1) = 6) → (wY_endOf_35 post (wY_endOf_4 post yit ysz yfd yls ymd ysa ytk ydp yps ybt yst yus ynx yra yrd yks yas ybs yk yf ys yin yli you yva yop ynu yse yth q) (nI (c + 1)) (nI (j + 1)) yit ysz yfd yls ymd ysa ytk ydp yps ybt yst yus ynx yra yrd yks yas ybs yk yf ys yin yli you yva yop ynu yse yth) := by
    intro h
    refine And.intro hin ?_
    rw [cj]
    exact ⟨fun z => nm_r (pk_m1 c) (He z), fun z => Hn h z⟩
  rw [cj]
  by_cases h4 : yk (j + 1) < 4
  · exact br_t h4 (G (fun z => ((fw_op_iff _).mp z).1 h4))
  · refine br_f h4 (And.intro hin ?_)
    by_cases h6 : 6 < yk (j + 1)
    · exact br_t h6 (G (fun z => ((fw_op_iff _).mp z).2 h6))
    · have ho := (fw_op_iff _).mpr ⟨h4, h6⟩
      refine br_f h6 (nm_r (nI_1 (c + 1)) (And.intro hin ?_))
      rw [cj]
      refine br_f ?_ (Ho ho)
      rcases ho with h | h | h <;> rw [h] <;> decide
theorem yy_endOf {n o : Nat} {r : List Nat} (w : fw_wf yk n) (hn : n ≤ 40) (ho : ¬ yk o = 5) : ∀ d j (l : List Nat), j + d = n → j < n → fw_st yk (j + 1) = l ++ o :: r → l.length ≤ 4 →
    ∃ e, j < e ∧ e < n ∧ yk e = 13 ∧ fw_st yk e = o :: r ∧ (∀ post : Int32 → Prop, post (nI e) → ∀ q, d < q → (wY_endOf_4 post yit ysz yfd yls ymd ysa ytk ydp yps ybt yst yus ynx yra yrd yks yas ybs yk yf ys yin yli you yva yop ynu yse yth q (nI (l.length + 1)) (nI j))) := by
  intro d
  induction d with
  | zero => intro j l hj hj2; omega
  | succ d ih =>
    intro j l hj hj2 hs hl
    have hJ : j + 1 < n := by
      rcases Nat.lt_or_ge (j + 1) n with h | h
      · exact h
      · rw [show j + 1 = n by omega, w.2.2.2] at hs
        cases l <;> cases hs
    have hlen := fw_st_len w (j + 1 + 1) (by omega)
    rcases fw_st_cases yk (j + 1) with ⟨h, e⟩ | ⟨h, e⟩ | ⟨h, e⟩ | ⟨h, h2, h3, e⟩
    · rw [hs] at e
      rw [e] at hlen
      obtain ⟨x, a1, a2, a3, a4, a5⟩ := ih (j + 1) ((j + 1) :: l) (by omega) hJ e (by simp at hlen ⊢; omega)
      refine ⟨x, by omega, a2, a3, a4, fun post H q hq => ?_⟩
      obtain ⟨q, rfl⟩ : ∃ r, q = r + 1 := ⟨q - 1, by omega⟩
      refine yy_eo1 (by omega) (by omega) (fun _ => a5 post H q (by omega)) (fun z => ?_) (fun z => absurd h z)
      rcases h with h | h | h <;> rw [h] at z <;> exact absurd z (by decide)
    · cases l with
      | nil =>
        obtain ⟨o', t', e1, e2⟩ := w.1 (j + 1) hJ h
        rw [hs] at e1
        injection e1 with e1 _
        rw [← e1] at e2
        exact absurd e2 ho
      | cons a l =>
        rw [hs] at e
        obtain ⟨x, a1, a2, a3, a4, a5⟩ := ih (j + 1) ((j + 1) :: l) (by omega) hJ e hl
        refine ⟨x, by omega, a2, a3, a4, fun post H q hq => ?_⟩
        obtain ⟨q, rfl⟩ : ∃ r, q = r + 1 := ⟨q - 1, by omega⟩
        refine yy_eo1 (by omega) (by omega) (fun z => ?_) (fun z => ?_) (fun _ _ => a5 post H q (by omega))
        · rw [h] at z; exact absurd z (by decide)
        · rw [h] at z; exact absurd z (by decide)
    · cases l with
      | nil =>
        refine ⟨j + 1, by omega, hJ, h, hs, fun post H q hq => ?_⟩
        obtain ⟨q, rfl⟩ : ∃ r, q = r + 1 + 1 := ⟨q - 2, by omega⟩
        refine yy_eo1 (by omega) (by simp) (fun z => ?_) (fun z => br_t (by decide) H) (fun _ z => absurd h z)
        rw [h] at z; exact absurd z (by decide)
      | cons a l =>
        rw [hs] at e
        obtain ⟨x, a1, a2, a3, a4, a5⟩ := ih (j + 1) l (by omega) hJ e (by simp at hl; omega)
        refine ⟨x, by omega, a2, a3, a4, fun post H q hq => ?_⟩
        obtain ⟨q, rfl⟩ : ∃ r, q = r + 1 := ⟨q - 1, by omega⟩
        refine yy_eo1 (by omega) (by omega) (fun z => ?_) (fun z => a5 post H q (by omega)) (fun _ z => absurd h z)
        rw [h] at z; exact absurd z (by decide)
    · rw [hs] at e
      obtain ⟨x, a1, a2, a3, a4, a5⟩ := ih (j + 1) l (by omega) hJ e hl
      refine ⟨x, by omega, a2, a3, a4, fun post H q hq => ?_⟩
      obtain ⟨q, rfl⟩ : ∃ r, q = r + 1 := ⟨q - 1, by omega⟩
      exact yy_eo1 (by omega) (by omega) (fun z => absurd z h) (fun z => absurd z h3) (fun _ _ => a5 post H q (by omega))
theorem yy_lo1 {post : Int32 → Prop} {c j q : Nat} (hJ : j + 1 < 40) (hc : c ≤ 40) (Hl : yk (j + 1) = 12 → c = 0 → post (nI (j + 1))) (Ho : (yk (j + 1) = 4 ∨ yk (j + 1) = 5 ∨ yk (j + 1) = 6) → (wY_elseOf_4 post yit ysz yfd yls ymd ysa ytk ydp yps ybt yst yus ynx yra yrd yks yas ybs yk yf ys yin yli you yva yop ynu yse yth q (nI (c + 1 + 1)) (nI (j + 1)))) (He : yk (j + 1) = 13 → (wY_elseOf_4 post yit ysz yfd yls ymd ysa ytk ydp yps ybt yst yus ynx yra yrd yks yas ybs yk yf ys yin yli you yva yop ynu yse yth q (nI c) (nI (j + 1))))
    (Hn : ¬ (yk (j + 1) = 4 ∨ yk (j + 1) = 5 ∨ yk (j + 1) = 6) → ¬ yk (j + 1) = 13 → (yk (j + 1) = 12 → 0 < c) → (wY_elseOf_4 post yit ysz yfd yls ymd ysa ytk ydp yps ybt yst yus ynx yra yrd yks yas ybs yk yf ys yin yli you yva yop ynu yse yth q (nI (c + 1)) (nI (j + 1)))) : (wY_elseOf_4 post yit ysz yfd yls ymd ysa ytk ydp yps ybt yst yus ynx yra yrd yks yas ybs yk yf ys yin yli you yva yop ynu yse yth (q + 1) (nI (c + 1)) (nI j)) := by
  have hin : vp_in (nI (j + 1)) 40 := vp_in_nI hJ (by decide)
  have cj : (nI (j + 1)).toNatClampNeg = j + 1 := nI_clamp (by omega)
  refine br_f (nI_nle (by omega) (by omega)) (nm_r (nI_1 j) (And.intro hin ?_))
  have G : ¬ (yk (j + 1) = 4 ∨ yk (j + 1) = 5 ∨ yk (j + 1) = 6) → (yk (j + 1) = 12 → 0 < c) → (wY_elseOf_53 post (wY_elseOf_4 post yit ysz yfd yls ymd ysa ytk ydp yps ybt yst yus ynx yra yrd yks yas ybs yk yf ys yin yli you yva yop ynu yse yth q) (nI (c + 1)) (nI (j + 1)) yit ysz yfd yls ymd ysa ytk ydp yps ybt yst yus ynx yra yrd yks yas ybs yk yf ys yin yli you yva yop ynu yse yth) := by
    intro h h'
    refine And.intro hin ?_
    rw [cj]
    exact ⟨fun z => nm_r (pk_m1 c) (He z), fun z => Hn h z h'⟩
  have G2 : (yk (j + 1) = 12 → 0 < c) → (wY_elseOf_29 post (wY_elseOf_4 post yit ysz yfd yls ymd ysa ytk ydp yps ybt yst yus ynx yra yrd yks yas ybs yk yf ys yin yli you yva yop ynu yse yth q) (nI (c + 1)) (nI (j + 1)) yit ysz yfd yls ymd ysa ytk ydp yps ybt yst yus ynx yra yrd yks yas ybs yk yf ys yin yli you yva yop ynu yse yth) := by
    intro h'
    refine And.intro hin ?_
    rw [cj]
    by_cases h4 : yk (j + 1) < 4
    · exact br_t h4 (G (fun z => ((fw_op_iff _).mp z).1 h4) h')
    · refine br_f h4 (And.intro hin ?_)
      by_cases h6 : 6 < yk (j + 1)
      · exact br_t h6 (G (fun z => ((fw_op_iff _).mp z).2 h6) h')
      · have ho := (fw_op_iff _).mpr ⟨h4, h6⟩
        refine br_f h6 (nm_r (nI_1 (c + 1)) (And.intro hin ?_))
        rw [cj]
        refine br_f ?_ (Ho ho)
        rcases ho with h | h | h <;> rw [h] <;> decide
  rw [cj]
  refine ⟨fun z => pk_eq (c + 1) 1 (fun h => Hl z (by omega)) (fun h => G2 (fun _ => by omega)), fun z => G2 (fun w => absurd w z)⟩
theorem yy_elseOf {n o : Nat} {r : List Nat} (w : fw_wf yk n) (hn : n ≤ 40) : ∀ d j (l : List Nat), j + d = n → j < n → fw_st yk (j + 1) = l ++ o :: r → l.length ≤ 4 →
    ∃ e, j < e ∧ e < n ∧ (yk e = 12 ∨ yk e = 13) ∧ fw_st yk e = o :: r ∧ (∀ post : Int32 → Prop, post (nI e) → ∀ q, d < q → (wY_elseOf_4 post yit ysz yfd yls ymd ysa ytk ydp yps ybt yst yus ynx yra yrd yks yas ybs yk yf ys yin yli you yva yop ynu yse yth q (nI (l.length + 1)) (nI j))) := by
  intro d
  induction d with
  | zero => intro j l hj hj2; omega
  | succ d ih =>
    intro j l hj hj2 hs hl
    have hJ : j + 1 < n := by
      rcases Nat.lt_or_ge (j + 1) n with h | h
      · exact h
      · rw [show j + 1 = n by omega, w.2.2.2] at hs
        cases l <;> cases hs
    have hlen := fw_st_len w (j + 1 + 1) (by omega)
    rcases fw_st_cases yk (j + 1) with ⟨h, e⟩ | ⟨h, e⟩ | ⟨h, e⟩ | ⟨h, h2, h3, e⟩
    · rw [hs] at e
      rw [e] at hlen
      obtain ⟨x, a1, a2, a3, a4, a5⟩ := ih (j + 1) ((j + 1) :: l) (by omega) hJ e (by simp at hlen ⊢; omega)
      refine ⟨x, by omega, a2, a3, a4, fun post H q hq => ?_⟩
      obtain ⟨q, rfl⟩ : ∃ r, q = r + 1 := ⟨q - 1, by omega⟩
      refine yy_lo1 (by omega) (by omega) (fun z => ?_) (fun _ => a5 post H q (by omega)) (fun z => ?_) (fun z => absurd h z)
      · rcases h with h | h | h <;> rw [h] at z <;> exact absurd z (by decide)
      · rcases h with h | h | h <;> rw [h] at z <;> exact absurd z (by decide)
    · cases l with
      | nil =>
        refine ⟨j + 1, by omega, hJ, Or.inl h, hs, fun post H q hq => ?_⟩
        obtain ⟨q, rfl⟩ : ∃ r, q = r + 1 := ⟨q - 1, by omega⟩
        refine yy_lo1 (by omega) (by simp) (fun _ _ => H) (fun z => ?_) (fun z => ?_) (fun _ _ z => absurd (z h) (by simp))
        · rw [h] at z; exact absurd z (by decide)
        · rw [h] at z; exact absurd z (by decide)
      | cons a l =>
        rw [hs] at e
        obtain ⟨x, a1, a2, a3, a4, a5⟩ := ih (j + 1) ((j + 1) :: l) (by omega) hJ e hl
        refine ⟨x, by omega, a2, a3, a4, fun post H q hq => ?_⟩
        obtain ⟨q, rfl⟩ : ∃ r, q = r + 1 := ⟨q - 1, by omega⟩
        refine yy_lo1 (by omega) (by omega) (fun _ z => absurd z (by simp)) (fun z => ?_) (fun z => ?_) (fun _ _ _ => a5 post H q (by omega))
        · rw [h] at z; exact absurd z (by decide)
        · rw [h] at z; exact absurd z (by decide)
    · cases l with
      | nil =>
        refine ⟨j + 1, by omega, hJ, Or.inr h, hs, fun post H q hq => ?_⟩
        obtain ⟨q, rfl⟩ : ∃ r, q = r + 1 + 1 := ⟨q - 2, by omega⟩
        refine yy_lo1 (by omega) (by simp) (fun z => ?_) (fun z => ?_) (fun z => br_t (by decide) H) (fun _ z => absurd h z)
        · rw [h] at z; exact absurd z (by decide)
        · rw [h] at z; exact absurd z (by decide)
      | cons a l =>
        rw [hs] at e
        obtain ⟨x, a1, a2, a3, a4, a5⟩ := ih (j + 1) l (by omega) hJ e (by simp at hl; omega)
        refine ⟨x, by omega, a2, a3, a4, fun post H q hq => ?_⟩
        obtain ⟨q, rfl⟩ : ∃ r, q = r + 1 := ⟨q - 1, by omega⟩
        refine yy_lo1 (by omega) (by omega) (fun z => ?_) (fun z => ?_) (fun z => a5 post H q (by omega)) (fun _ z => absurd h z)
        · rw [h] at z; exact absurd z (by decide)
        · rw [h] at z; exact absurd z (by decide)
    · rw [hs] at e
      obtain ⟨x, a1, a2, a3, a4, a5⟩ := ih (j + 1) l (by omega) hJ e hl
      refine ⟨x, by omega, a2, a3, a4, fun post H q hq => ?_⟩
      obtain ⟨q, rfl⟩ : ∃ r, q = r + 1 := ⟨q - 1, by omega⟩
      exact yy_lo1 (by omega) (by omega) (fun z => absurd z h2) (fun z => absurd z h) (fun z => absurd z h3) (fun _ _ _ => a5 post H q (by omega))
theorem fw_st_suf {K : Nat → Int32} : ∀ i (l : List Nat) x tl, fw_st K i = l ++ x :: tl → fw_st K (x + 1) = x :: tl := by
  intro i
  induction i with
  | zero => intro l x tl h; cases l <;> cases h
  | succ i ih =>
    intro l x tl h
    have T : ∀ l', (fw_st K i).tail = l' ++ x :: tl → fw_st K (x + 1) = x :: tl := by
      intro l' h'
      cases q : fw_st K i with
      | nil => rw [q] at h'; cases l' <;> cases h'
      | cons a r =>
        rw [q] at h'
        refine ih (a :: l') x tl ?_
        rw [q]
        exact congrArg (a :: ·) h'
    rcases fw_st_cases K i with ⟨g, e⟩ | ⟨g, e⟩ | ⟨g, e⟩ | ⟨g, g2, g3, e⟩
    · rw [e] at h
      cases l with
      | nil =>
        injection h with h1 h2
        rw [← h1, ← h2]; exact e
      | cons a l => injection h with h1 h2; exact ih l x tl h2
    · rw [e] at h
      cases l with
      | nil =>
        injection h with h1 h2
        rw [← h1, ← h2]; exact e
      | cons a l => injection h with h1 h2; exact T l h2
    · rw [e] at h; exact T l h
    · rw [e] at h; exact ih l x tl h
end
section
/-! REPEAT, WHEN, BLOCK, ELSE, END -/
variable {xit xln xrd xop xil cnt xml wr pc pos lim bby bl sm st tkn dep beg oc plc rch : Int32} {xk xf xs wh aa bb par ri rb rv oi os ot inp lst mad vr sav : Nat → Int32} {yit ysz yfd yls ymd ysa ytk ydp yps ybt yst yus ynx yra yrd : Int32} {yks yas ybs yk yf ys yin yli you yva yop ynu yse yth : Nat → Int32}
theorem fw_PT13 {K par : Nat → Int32} {n e o : Nat} {r : List Nat} (P : fw_PT K par n) (he : e < n) (k : K e = 13) (h : fw_st K e = o :: r) : par e = nI o ∧ par o = nI e := by
  obtain ⟨o', t', a, b, c⟩ := P.1 e he k
  rw [h] at a
  injection a with a1 a2
  subst a1
  exact ⟨b, c⟩
theorem fw_PT12 {K par : Nat → Int32} {n e o : Nat} {r : List Nat} (P : fw_PT K par n) (he : e < n) (k : K e = 12) (h : fw_st K e = o :: r) : par o = nI e := by
  obtain ⟨o', t', a, b⟩ := P.2 e he k
  rw [h] at a
  injection a with a1 a2
  subst a1
  exact b
theorem xc_4 {post : SX → Prop} {i d : Nat} (hi : i < 41) (hd : d < 4)
    (H4 : ¬ (0 ≤ vr (bb i &&& 7).toNatClampNeg ∧ vr (bb i &&& 7).toNatClampNeg ≤ 32) → post (xit, xln, xrd, xop, xil, cnt, xml, wr, nI i, pos, lim, bby, bl, sm, st, tkn, nI d, beg, 4, nI i, beg, xk, xf, xs, wh, aa, bb, par, ri, rb, rv, oi, os, ot, inp, lst, mad, vr, sav))
    (H0 : vr (bb i &&& 7).toNatClampNeg = 0 → post (xit, xln, xrd, xop, xil, cnt, xml, wr, par i + 1, pos, lim, bby, bl, sm, st, tkn, nI d, beg, oc, plc, rch, xk, xf, xs, wh, aa, bb, par, ri, rb, rv, oi, os, ot, inp, lst, mad, vr, sav))
    (H1 : 0 ≤ vr (bb i &&& 7).toNatClampNeg → vr (bb i &&& 7).toNatClampNeg ≤ 32 → ¬ vr (bb i &&& 7).toNatClampNeg = 0 → post (xit, xln, xrd, xop, xil, cnt, xml, wr, nI (i + 1), pos, lim, bby, bl, sm, st, tkn, nI (d + 1), beg, oc, plc, rch, xk, xf, xs, wh, aa, bb, par, ri, rb, rv, oi, os, ot, inp, lst, mad, vr, upd sav d (vr (bb i &&& 7).toNatClampNeg))) : (wpX_control post (xit, xln, xrd, xop, xil, cnt, xml, wr, nI i, pos, lim, bby, bl, sm, st, tkn, nI d, beg, oc, plc, rch, xk, xf, xs, wh, aa, bb, par, ri, rb, rv, oi, os, ot, inp, lst, mad, vr, sav) 4) := by
  have hpc : vp_in (nI i) 41 := vp_in_nI hi (by decide)
  have ci : (nI i).toNatClampNeg = i := nI_clamp (by omega)
  refine And.intro hpc (nm_r (e' := bb i &&& 7) (by rw [ci]) (And.intro hpc (nm_e ?_)))
  refine br_f (by decide) (br_f (by decide) (br_t rfl (And.intro (fw_in7 _) (nm_e (xx_out (fun a b => br_t rfl ⟨fun z => And.intro hpc (nm_r (by rw [ci]) (H0 z)), fun z => nm_r (nI_1 d) (And.intro (vp_in_nI hd (by decide)) (nm_r (by rw [nI_clamp (by omega)]) (nm_r (nI_1 i) (H1 a b z))))⟩) (fun z => br_f (by decide) (xx_end (by decide) (H4 z))))))))
theorem yb_77 {post : Int32 → SY → Prop} {i d : Nat} {x2 x4 : Int32} (hi : i < 40) (hd : d < 5) (h5 : ¬ x2 = 5) (H6 : x2 = 6 → post 0 (yit, ysz, yfd, yls, ymd, ysa, ytk, nI (d + 1), yps, ybt, yst, yus, ynx, yra, yrd, yks, yas, ybs, yk, yf, ys, yin, yli, you, yva, upd yop d (nI i), upd ynu d (yps + x4), yse, yth)) (H : ¬ x2 = 6 → post 0 (yit, ysz, yfd, yls, ymd, ysa, ytk, nI (d + 1), yps, ybt, yst, yus, ynx, yra, yrd, yks, yas, ybs, yk, yf, ys, yin, yli, you, yva, upd yop d (nI i), upd ynu d x4, yse, yth)) : (wY_begin_77 post (nI i) x2 x4 yit ysz yfd yls ymd ysa ytk (nI d) yps ybt yst yus ynx yra yrd yks yas ybs yk yf ys yin yli you yva yop ynu yse yth) := by
  have hin : vp_in (nI d) 5 := vp_in_nI hd (by decide)
  have cd : (nI d).toNatClampNeg = d := nI_clamp (by omega)
  refine And.intro hin (nm_r (e' := upd yop d (nI i)) (by rw [cd]) (nm_r (nI_1 d) ⟨fun z => And.intro hin (nm_r (e' := upd ynu d (yps + x4)) (by rw [cd]) (br_f h5 (H6 z))), fun z => And.intro hin (nm_r (e' := upd ynu d x4) (by rw [cd]) (br_f h5 (H z)))⟩))
theorem fw_ms_t {n i i' t : Nat} {yk : Nat → Int32} {s s' : List (Nat × Nat)} (hi : i ≤ n) (hn : n ≤ 40) (ht : t < 400) (h : fw_MS yk s' ≤ 128) : fw_ms n i' (t + 1) yk s' + 2 ≤ fw_ms n i t yk s := by
  unfold fw_ms; omega
theorem fw_ms_t1 {n i i' t : Nat} {yk : Nat → Int32} {s s' : List (Nat × Nat)} (hi : i ≤ n) (hn : n ≤ 40) (ht : t < 400) (h : fw_MS yk s' ≤ 128) : fw_ms n i' (t + 1) yk s' + 1 ≤ fw_ms n i t yk s := by
  unfold fw_ms; omega
theorem st_4 {n B i m p b t k c : Nat} {s : List (Nat × Nat)} (R : (fw_RF n B i m p b t k c s xit xrd xil xml wr bby sm xk xf xs wh aa bb par ri rb rv inp mad sav yit yfd ymd yrd yks yas ybs yk yf ys yin you yop ynu)) (hi : i < n) (XI : ∀ (post : SX → Prop) (q : Nat), (wpX_item (fw_X66 post q) (xit, xln, xrd, xop, xil, nI c, xml, wr, nI i, nI p, nI (fw_LM yk B s), bby, nI b, sm, nI t, nI k, nI (fw_RK yk s), beg, (-1), plc, rch, xk, xf, xs, wh, aa, bb, par, ri, rb, rv, oi, os, ot, inp, lst, mad, vr, sav)) → fw_X66 post (q + 1) (xit, xln, xrd, xop, xil, nI c, xml, wr, nI i, nI p, nI (fw_LM yk B s), bby, nI b, sm, nI t, nI k, nI (fw_RK yk s), beg, (-1), plc, rch, xk, xf, xs, wh, aa, bb, par, ri, rb, rv, oi, os, ot, inp, lst, mad, vr, sav)) (ek : yk i = 4) : fw_ST wr i m (xit, xln, xrd, xop, xil, nI c, xml, wr, nI i, nI p, nI (fw_LM yk B s), bby, nI b, sm, nI t, nI k, nI (fw_RK yk s), beg, (-1), plc, rch, xk, xf, xs, wh, aa, bb, par, ri, rb, rv, oi, os, ot, inp, lst, mad, vr, sav) (yit, nI n, yfd, nI c, ymd, ysa, ytk, nI s.length, nI p, nI b, nI t, nI k, ynx, yra, yrd, yks, yas, ybs, yk, yf, ys, yin, lst, you, vr, yop, ynu, yse, yth) := by
  have hl := fw_len R
  have R' := R
  obtain ⟨_, F, M, D, S, _, ht, hkc, hc, hp, _⟩ := R'
  have hn := F.1
  rcases Nat.lt_or_ge t 400 with ht' | ht'
  rotate_left
  · exact st_many R hi XI ek (by decide) (by decide) (by decide) (Or.inl (by omega))
  obtain ⟨ew, ea, eb, _⟩ := F.2.1 i hi
  rw [ek] at ew
  obtain ⟨w, P, _⟩ := F.2.2.2
  have hX : ∀ post : SX → Prop, fw_X143 post 4 (xit, xln, xrd, xop, xil, nI c, xml, wr, nI i, nI p, nI (fw_LM yk B s), bby, nI b, sm, nI (t + 1), nI k, nI (fw_RK yk s), nI p, (-1), plc, rch, xk, xf, xs, wh, aa, bb, par, ri, rb, rv, oi, os, ot, inp, lst, mad, vr, sav) → (wpX_item post (xit, xln, xrd, xop, xil, nI c, xml, wr, nI i, nI p, nI (fw_LM yk B s), bby, nI b, sm, nI t, nI k, nI (fw_RK yk s), beg, (-1), plc, rch, xk, xf, xs, wh, aa, bb, par, ri, rb, rv, oi, os, ot, inp, lst, mad, vr, sav)) := fun post H => xi_nc (Or.inr (Or.inl rfl)) ew (by omega) ht' (fun z => absurd z (by decide)) H
  have hY : ∀ post : Int32 → SY → Prop, fw_Y113 post (nI i) 4 (yit, nI n, yfd, nI c, ymd, ysa, ytk, nI s.length, nI p, nI b, nI (t + 1), nI k, nI (i + 1), nI p, yrd, yks, yas, ybs, yk, yf, ys, yin, lst, you, vr, yop, ynu, yse, yth) → (wpY_item post (yit, nI n, yfd, nI c, ymd, ysa, ytk, nI s.length, nI p, nI b, nI t, nI k, nI (i + 1), nI p, yrd, yks, yas, ybs, yk, yf, ys, yin, lst, you, vr, yop, ynu, yse, yth) (nI i)) := fun post H => yi_nc (Or.inr (Or.inl rfl)) ek (by omega) ht' (fun z => absurd z (by decide)) H
  have ebb : bb i &&& 7 = ys i &&& 7 := by rw [eb]
  have hs1 := fw_st_op (K := yk) (i := i) (Or.inl ek)
  have hlen : s.length < 4 := by rw [fw_SK_len S]; exact w.2.2.1 i hi (Or.inl ek)
  have hrk := fw_RK_le yk s
  have hms := fw_MS_le S
  by_cases z : 0 ≤ vr (ys i &&& 7).toNatClampNeg ∧ vr (ys i &&& 7).toNatClampNeg ≤ 32
  · by_cases z0 : vr (ys i &&& 7).toNatClampNeg = 0
    · obtain ⟨e, e1, e2, e3, e4, eY⟩ := yy_endOf (yit := yit) (ysz := nI n) (yfd := yfd) (yls := nI c) (ymd := ymd) (ysa := ysa) (ytk := ytk) (ydp := nI s.length) (yps := nI p) (ybt := nI b) (yst := nI (t + 1)) (yus := nI k) (ynx := nI (i + 1)) (yra := nI p) (yrd := yrd) (yks := yks) (yas := yas) (ybs := ybs) (yk := yk) (yf := yf) (ys := ys) (yin := yin) (yli := lst) (you := you) (yva := vr) (yop := yop) (ynu := ynu) (yse := yse) (yth := yth) (o := i) (r := fw_st yk i) w hn (by rw [ek]; decide) (n - i) i [] (by omega) hi hs1 (by simp)
      obtain ⟨_, pe⟩ := fw_PT13 P e2 e3 e4
      have es : fw_st yk (e + 1) = fw_st yk i := by rw [fw_st_13 e3, e4]; rfl
      refine st_go R (i' := e + 1) (t' := t + 1) (q0 := 1) D (by rw [es]; exact S) (by omega) (by omega) hkc hc hp (by omega) (fw_ms_t1 (s' := s) (by omega) hn ht' (by omega)) (beg' := nI p) (lst' := lst) (vr' := vr) (ynx' := nI (e + 1)) (yra' := nI p) (fun post q H => XI post q (hX _ (x143_ctl (Or.inl rfl) (xc_4 (by omega) (by omega) ?_ ?_ ?_)))) (y50_ok hi hn (fun post H => hY post (y113_begin (Or.inl rfl) (by omega) ?_)))
      · rw [ebb]; exact fun q => absurd z q
      · intro _
        rw [pe, nI_1]; exact H
      · rw [ebb]; exact fun _ _ q => absurd z0 q
      · exact And.intro (fw_in7 _) (nm_e (br_t rfl (yy_win (fun _ _ => br_f (by decide) (br_f (by decide) (br_f (by decide) (br_t rfl (br_t z0 ⟨n - i + 1, eY _ (nm_r (nI_1 e) H) (n - i + 1) (by omega)⟩))))) (fun q => absurd z q))))
    · obtain ⟨v, hv, ev⟩ : ∃ v : Nat, v ≤ 32 ∧ vr (ys i &&& 7).toNatClampNeg = nI v := nI_of2 (M := 32) (by decide) (Int32.not_lt.mpr z.1) z.2
      have hv0 : 1 ≤ v := by
        rcases Nat.eq_zero_or_pos v with h | h
        · rw [h] at ev; exact absurd ev z0
        · exact h
      have S' : fw_SK yk B (upd yop s.length (nI i)) (upd ynu s.length (nI v)) (upd sav (fw_RK yk s) (nI v)) ((i, v) :: s) (fw_st yk (i + 1)) := by
        rw [hs1]
        exact ⟨by omega, Or.inl rfl, pk_us, Or.inl ⟨ek, hv0, hv, pk_us, pk_us⟩, fw_SK_frame (fun d hd => ⟨pk_un (by omega), pk_un (by omega)⟩) (fun r hr => pk_un (by omega)) S⟩
      have eL : fw_LM yk B ((i, v) :: s) = fw_LM yk B s := by rw [fw_LM, if_neg (by rw [ek]; decide)]
      have eR : fw_RK yk ((i, v) :: s) = fw_RK yk s + 1 := by rw [fw_RK, if_neg (by rw [ek]; decide)]
      have eM : fw_MS yk ((i, v) :: s) = fw_MS yk s + v := by rw [fw_MS, if_pos ek]
      refine st_go R (i' := i + 1) (t' := t + 1) (q0 := 1) D S' (by omega) (by omega) hkc hc (by rw [eL]; exact hp) (by omega) (fw_ms_t1 (s' := (i, v) :: s) (by omega) hn ht' (by omega)) (beg' := nI p) (lst' := lst) (vr' := vr) (ynx' := nI (i + 1)) (yra' := nI p) (fun post q H => XI post q (hX _ (x143_ctl (Or.inl rfl) (xc_4 (by omega) (by omega) ?_ ?_ ?_)))) (y50_ok hi hn (fun post H => hY post (y113_begin (Or.inl rfl) (by omega) ?_)))
      · rw [ebb]; exact fun q => absurd z q
      · rw [ebb]; exact fun q => absurd q z0
      · rw [ebb]
        intro _ _ _
        rw [ev]
        rw [eL, eR] at H
        exact H
      · refine And.intro (fw_in7 _) (nm_e (br_t rfl (yy_win (fun _ _ => br_f (by decide) (br_f (by decide) (br_f (by decide) (br_t rfl (br_f z0 (yb_77 (by omega) (by omega) (by decide) (fun q => absurd q (by decide)) (fun _ => ?_))))))) (fun q => absurd z q))))
        rw [ev]; exact H
  · refine st_fail R hi XI (h := 4) (by decide) (by decide) (pos' := nI p) (bl' := nI b) (bby' := bby) (st' := nI (t + 1)) (yps' := nI p) (ybt' := nI b) (yst' := nI (t + 1)) (ynx' := nI (i + 1)) (sm' := sm) D (fun z => ⟨rfl, rfl, rfl, rfl⟩) (fun post H => hX post (x143_ctl (Or.inl rfl) (xc_4 (by omega) (by omega) (fun _ => H) ?_ ?_))) (fun post H => hY post (y113_begin (Or.inl rfl) (by omega) (And.intro (fw_in7 _) (nm_e (br_t rfl (yy_win (fun a b => absurd ⟨a, b⟩ z) (fun _ => br_t rfl H)))))))
    · rw [ebb]
      intro q
      rw [q] at z
      exact absurd z (by decide)
    · rw [ebb]; exact fun a b => absurd ⟨a, b⟩ z
theorem xc_5 {post : SX → Prop} {i : Nat} (hi : i < 41) (H0 : vr (bb i &&& 7).toNatClampNeg = aa i → post (xit, xln, xrd, xop, xil, cnt, xml, wr, nI (i + 1), pos, lim, bby, bl, sm, st, tkn, dep, beg, oc, plc, rch, xk, xf, xs, wh, aa, bb, par, ri, rb, rv, oi, os, ot, inp, lst, mad, vr, sav)) (H1 : ¬ vr (bb i &&& 7).toNatClampNeg = aa i → post (xit, xln, xrd, xop, xil, cnt, xml, wr, par i + 1, pos, lim, bby, bl, sm, st, tkn, dep, beg, oc, plc, rch, xk, xf, xs, wh, aa, bb, par, ri, rb, rv, oi, os, ot, inp, lst, mad, vr, sav)) : (wpX_control post (xit, xln, xrd, xop, xil, cnt, xml, wr, nI i, pos, lim, bby, bl, sm, st, tkn, dep, beg, oc, plc, rch, xk, xf, xs, wh, aa, bb, par, ri, rb, rv, oi, os, ot, inp, lst, mad, vr, sav) 5) := by
  have hpc : vp_in (nI i) 41 := vp_in_nI hi (by decide)
  have ci : (nI i).toNatClampNeg = i := nI_clamp (by omega)
  refine And.intro hpc (nm_r (e' := bb i &&& 7) (by rw [ci]) (And.intro hpc (nm_r (e' := aa i) (by rw [ci]) ?_)))
  exact br_f (by decide) (br_f (by decide) (br_f (by decide) (br_t rfl (And.intro (fw_in7 _) ⟨fun z => nm_r (nI_1 i) (H0 z), fun z => And.intro hpc (nm_r (by rw [ci]) (H1 z))⟩))))
theorem yb_5 {post : Int32 → SY → Prop} {i d : Nat} (hi : i < 40) (hd : d < 5) (H0 : yva (ys i &&& 7).toNatClampNeg = yf i → post 0 (yit, ysz, yfd, yls, ymd, ysa, ytk, nI (d + 1), yps, ybt, yst, yus, ynx, yra, yrd, yks, yas, ybs, yk, yf, ys, yin, yli, you, yva, upd yop d (nI i), upd ynu d (yva (ys i &&& 7).toNatClampNeg), yse, yth))
    (H1 : ¬ yva (ys i &&& 7).toNatClampNeg = yf i → (wpY_elseOf (fun r => vp_in r 40 ∧ ((yk r.toNatClampNeg = 12 → ∀ y, y = r + 1 → post 0 (yit, ysz, yfd, yls, ymd, ysa, ytk, nI (d + 1), yps, ybt, yst, yus, y, yra, yrd, yks, yas, ybs, yk, yf, ys, yin, yli, you, yva, upd yop d (nI i), upd ynu d (yva (ys i &&& 7).toNatClampNeg), yse, yth)) ∧ (¬ yk r.toNatClampNeg = 12 → post 0 (yit, ysz, yfd, yls, ymd, ysa, ytk, nI (d + 1), yps, ybt, yst, yus, r, yra, yrd, yks, yas, ybs, yk, yf, ys, yin, yli, you, yva, upd yop d (nI i), upd ynu d (yva (ys i &&& 7).toNatClampNeg), yse, yth)))) (yit, ysz, yfd, yls, ymd, ysa, ytk, nI (d + 1), yps, ybt, yst, yus, ynx, yra, yrd, yks, yas, ybs, yk, yf, ys, yin, yli, you, yva, upd yop d (nI i), upd ynu d (yva (ys i &&& 7).toNatClampNeg), yse, yth) (nI i))) : (wpY_begin post (yit, ysz, yfd, yls, ymd, ysa, ytk, nI d, yps, ybt, yst, yus, ynx, yra, yrd, yks, yas, ybs, yk, yf, ys, yin, yli, you, yva, yop, ynu, yse, yth) (nI i) 5 (ys i &&& 7)) := by
  have hin : vp_in (nI d) 5 := vp_in_nI hd (by decide)
  have cd : (nI d).toNatClampNeg = d := nI_clamp (by omega)
  refine And.intro (fw_in7 _) (nm_e (br_f (by decide) (br_f (by decide) (br_f (by decide) (br_f (by decide) (And.intro hin (nm_r (e' := upd yop d (nI i)) (by rw [cd]) (nm_r (nI_1 d) (br_f (by decide) (And.intro hin (nm_r (e' := upd ynu d (yva (ys i &&& 7).toNatClampNeg)) (by rw [cd]) (br_t rfl (And.intro (vp_in_nI hi (by decide)) ?_)))))))))))))
  rw [nI_clamp (n := i) (by omega)]
  exact ⟨H0, H1⟩
/-- the reference does the END of a WHEN -/
theorem yi_end5 {post : Int32 → SY → Prop} {e o d : Nat} (he : e < 40) (ek : yk e = 13) (hd : d < 5) (eo : yop d = nI o) (ho : o < 40) (ko : yk o = 5) (H : post 0 (yit, ysz, yfd, yls, ymd, ysa, ytk, nI d, yps, ybt, yst, yus, ynx, yra, yrd, yks, yas, ybs, yk, yf, ys, yin, yli, you, yva, yop, ynu, yse, yth)) : (wpY_item post (yit, ysz, yfd, yls, ymd, ysa, ytk, nI (d + 1), yps, ybt, yst, yus, ynx, yra, yrd, yks, yas, ybs, yk, yf, ys, yin, yli, you, yva, yop, ynu, yse, yth) (nI e)) := by
  have hin : vp_in (nI d) 5 := vp_in_nI hd (by decide)
  have cd : (nI d).toNatClampNeg = d := nI_clamp (by omega)
  have co : (nI o).toNatClampNeg = o := nI_clamp (by omega)
  refine And.intro (vp_in_nI he (by decide)) (nm_r (e' := 13) (by rw [nI_clamp (by omega)]; exact ek) (br_t rfl (nm_r (e' := nI d) (nI_pred d) (And.intro hin (And.intro (by rw [cd, eo]; exact vp_in_nI ho (by decide)) (nm_r (e' := 5) (by rw [cd, eo, co]; exact ko) (br_f (by decide) (br_f (by decide) (nm_r (nI_pred d) H)))))))))
theorem st_5 {n B i m p b t k c : Nat} {s : List (Nat × Nat)} (R : (fw_RF n B i m p b t k c s xit xrd xil xml wr bby sm xk xf xs wh aa bb par ri rb rv inp mad sav yit yfd ymd yrd yks yas ybs yk yf ys yin you yop ynu)) (hi : i < n) (XI : ∀ (post : SX → Prop) (q : Nat), (wpX_item (fw_X66 post q) (xit, xln, xrd, xop, xil, nI c, xml, wr, nI i, nI p, nI (fw_LM yk B s), bby, nI b, sm, nI t, nI k, nI (fw_RK yk s), beg, (-1), plc, rch, xk, xf, xs, wh, aa, bb, par, ri, rb, rv, oi, os, ot, inp, lst, mad, vr, sav)) → fw_X66 post (q + 1) (xit, xln, xrd, xop, xil, nI c, xml, wr, nI i, nI p, nI (fw_LM yk B s), bby, nI b, sm, nI t, nI k, nI (fw_RK yk s), beg, (-1), plc, rch, xk, xf, xs, wh, aa, bb, par, ri, rb, rv, oi, os, ot, inp, lst, mad, vr, sav)) (ek : yk i = 5) : fw_ST wr i m (xit, xln, xrd, xop, xil, nI c, xml, wr, nI i, nI p, nI (fw_LM yk B s), bby, nI b, sm, nI t, nI k, nI (fw_RK yk s), beg, (-1), plc, rch, xk, xf, xs, wh, aa, bb, par, ri, rb, rv, oi, os, ot, inp, lst, mad, vr, sav) (yit, nI n, yfd, nI c, ymd, ysa, ytk, nI s.length, nI p, nI b, nI t, nI k, ynx, yra, yrd, yks, yas, ybs, yk, yf, ys, yin, lst, you, vr, yop, ynu, yse, yth) := by
  have hl := fw_len R
  have R' := R
  obtain ⟨_, F, M, D, S, _, ht, hkc, hc, hp, _⟩ := R'
  have hn := F.1
  rcases Nat.lt_or_ge t 400 with ht' | ht'
  rotate_left
  · exact st_many R hi XI ek (by decide) (by decide) (by decide) (Or.inl (by omega))
  obtain ⟨ew, ea, eb, _⟩ := F.2.1 i hi
  rw [ek] at ew
  obtain ⟨w, P, _⟩ := F.2.2.2
  have hX : ∀ post : SX → Prop, fw_X143 post 5 (xit, xln, xrd, xop, xil, nI c, xml, wr, nI i, nI p, nI (fw_LM yk B s), bby, nI b, sm, nI (t + 1), nI k, nI (fw_RK yk s), nI p, (-1), plc, rch, xk, xf, xs, wh, aa, bb, par, ri, rb, rv, oi, os, ot, inp, lst, mad, vr, sav) → (wpX_item post (xit, xln, xrd, xop, xil, nI c, xml, wr, nI i, nI p, nI (fw_LM yk B s), bby, nI b, sm, nI t, nI k, nI (fw_RK yk s), beg, (-1), plc, rch, xk, xf, xs, wh, aa, bb, par, ri, rb, rv, oi, os, ot, inp, lst, mad, vr, sav)) := fun post H => xi_nc (Or.inr (Or.inr (Or.inl rfl))) ew (by omega) ht' (fun z => absurd z (by decide)) H
  have hY : ∀ post : Int32 → SY → Prop, fw_Y113 post (nI i) 5 (yit, nI n, yfd, nI c, ymd, ysa, ytk, nI s.length, nI p, nI b, nI (t + 1), nI k, nI (i + 1), nI p, yrd, yks, yas, ybs, yk, yf, ys, yin, lst, you, vr, yop, ynu, yse, yth) → (wpY_item post (yit, nI n, yfd, nI c, ymd, ysa, ytk, nI s.length, nI p, nI b, nI t, nI k, nI (i + 1), nI p, yrd, yks, yas, ybs, yk, yf, ys, yin, lst, you, vr, yop, ynu, yse, yth) (nI i)) := fun post H => yi_nc (Or.inr (Or.inr (Or.inl rfl))) ek (by omega) ht' (fun z => absurd z (by decide)) H
  have ebb : bb i &&& 7 = ys i &&& 7 := by rw [eb]
  have hs1 := fw_st_op (K := yk) (i := i) (Or.inr (Or.inl ek))
  have hlen : s.length < 4 := by rw [fw_SK_len S]; exact w.2.2.1 i hi (Or.inr (Or.inl ek))
  have hms := fw_MS_le S
  generalize ev : vr (ys i &&& 7).toNatClampNeg = v
  have SS : fw_SK yk B (upd yop s.length (nI i)) (upd ynu s.length v) sav s (fw_st yk i) := fw_SK_frame (fun d hd => ⟨pk_un (by omega), pk_un (by omega)⟩) (fun r hr => rfl) S
  have eL : fw_LM yk B ((i, 0) :: s) = fw_LM yk B s := by rw [fw_LM, if_neg (by rw [ek]; decide)]
  have eR : fw_RK yk ((i, 0) :: s) = fw_RK yk s := by rw [fw_RK, if_pos ek]
  have eM : fw_MS yk ((i, 0) :: s) = fw_MS yk s := by rw [fw_MS, if_neg (by rw [ek]; decide)]
  by_cases z : v = yf i
  · have S' : fw_SK yk B (upd yop s.length (nI i)) (upd ynu s.length v) sav ((i, 0) :: s) (fw_st yk (i + 1)) := by
      rw [hs1]
      exact ⟨by omega, Or.inl rfl, pk_us, Or.inr (Or.inl ek), SS⟩
    refine st_go R (i' := i + 1) (t' := t + 1) (q0 := 1) D S' (by omega) (by omega) hkc hc (by rw [eL]; exact hp) (by omega) (fw_ms_t1 (s' := (i, 0) :: s) (by omega) hn ht' (by omega)) (beg' := nI p) (lst' := lst) (vr' := vr) (ynx' := nI (i + 1)) (yra' := nI p) (fun post q H => XI post q (hX _ (x143_ctl (Or.inr (Or.inl rfl)) (xc_5 (by omega) ?_ ?_)))) (y50_ok hi hn (fun post H => hY post (y113_begin (Or.inr (Or.inl rfl)) (by omega) (yb_5 (by omega) (by omega) ?_ ?_))))
    · intro _
      rw [eL, eR] at H; exact H
    · rw [ebb, ev, ea]; exact fun q => absurd z q
    · intro _
      rw [ev]; exact H
    · rw [ev]; exact fun q => absurd z q
  · obtain ⟨e, e1, e2, e3, e4, eY⟩ := yy_elseOf (yit := yit) (ysz := nI n) (yfd := yfd) (yls := nI c) (ymd := ymd) (ysa := ysa) (ytk := ytk) (ydp := nI (s.length + 1)) (yps := nI p) (ybt := nI b) (yst := nI (t + 1)) (yus := nI k) (ynx := nI (i + 1)) (yra := nI p) (yrd := yrd) (yks := yks) (yas := yas) (ybs := ybs) (yk := yk) (yf := yf) (ys := ys) (yin := yin) (yli := lst) (you := you) (yva := vr) (yop := upd yop s.length (nI i)) (ynu := upd ynu s.length v) (yse := yse) (yth := yth) (o := i) (r := fw_st yk i) w hn (n - i) i [] (by omega) hi hs1 (by simp)
    have ce : (nI e).toNatClampNeg = e := nI_clamp (by omega)
    rcases e3 with e3 | e3
    · have pe := fw_PT12 P e2 e3 e4
      have S' : fw_SK yk B (upd yop s.length (nI i)) (upd ynu s.length v) sav ((i, 0) :: s) (fw_st yk (e + 1)) := by
        rw [fw_st_12 e3, e4]
        exact ⟨by omega, Or.inr ⟨ek, e3⟩, pk_us, Or.inr (Or.inl ek), SS⟩
      refine st_go R (i' := e + 1) (t' := t + 1) (q0 := 1) D S' (by omega) (by omega) hkc hc (by rw [eL]; exact hp) (by omega) (fw_ms_t1 (s' := (i, 0) :: s) (by omega) hn ht' (by omega)) (beg' := nI p) (lst' := lst) (vr' := vr) (ynx' := nI (e + 1)) (yra' := nI p) (fun post q H => XI post q (hX _ (x143_ctl (Or.inr (Or.inl rfl)) (xc_5 (by omega) ?_ ?_)))) (y50_ok hi hn (fun post H => hY post (y113_begin (Or.inr (Or.inl rfl)) (by omega) (yb_5 (by omega) (by omega) ?_ ?_))))
      · rw [ebb, ev, ea]; exact fun q => absurd q z
      · intro _
        rw [pe, nI_1]
        rw [eL, eR] at H; exact H
      · rw [ev]; exact fun q => absurd q z
      · rw [ev]
        intro _
        refine ⟨n - i + 1, eY _ (And.intro (vp_in_nI (by omega) (by decide)) ?_) _ (by omega)⟩
        rw [ce]
        exact br_t e3 (nm_r (nI_1 e) H)
    · obtain ⟨_, pe⟩ := fw_PT13 P e2 e3 e4
      have es : fw_st yk (e + 1) = fw_st yk i := by rw [fw_st_13 e3, e4]; rfl
      refine st_go R (i' := e + 1) (t' := t + 1) (q0 := 1 + 1) D (by rw [es]; exact SS) (by omega) (by omega) hkc hc hp (by omega) (fw_ms_t (s' := s) (by omega) hn ht' (by omega)) (beg' := nI p) (lst' := lst) (vr' := vr) (ynx' := nI (e + 1)) (yra' := nI p) (fun post q H => XI post q (hX _ (x143_ctl (Or.inr (Or.inl rfl)) (xc_5 (by omega) ?_ ?_)))) (fun post q H => y50_ok (zra := nI p) hi hn (fun post H => hY post (y113_begin (Or.inr (Or.inl rfl)) (by omega) (yb_5 (by omega) (by omega) ?_ ?_))) post (q + 1) (y50_ok e2 hn (fun post H => yi_end5 (by omega) e3 (by omega) pk_us (by omega) ek H) post q H))
      · rw [ebb, ev, ea]; exact fun q => absurd q z
      · intro _
        rw [pe, nI_1]; exact H
      · rw [ev]; exact fun q => absurd q z
      · rw [ev]
        intro _
        refine ⟨n - i + 1, eY _ (And.intro (vp_in_nI (by omega) (by decide)) ?_) _ (by omega)⟩
        rw [ce]
        refine br_f ?_ H
        rw [e3]; decide
end
section
/-! BLOCK, ELSE, END, and the end of all -/
variable {xit xln xrd xop xil cnt xml wr pc pos lim bby bl sm st tkn dep beg oc plc rch : Int32} {xk xf xs wh aa bb par ri rb rv oi os ot inp lst mad vr sav : Nat → Int32} {yit ysz yfd yls ymd ysa ytk ydp yps ybt yst yus ynx yra yrd : Int32} {yks yas ybs yk yf ys yin yli you yva yop ynu yse yth : Nat → Int32}
theorem xc_6 {post : SX → Prop} {i d p L : Nat} (hi : i < 41) (hd : d < 4) (hp : p ≤ L) (hL : L ≤ 64)
    (H4 : ¬ 0 ≤ vr (bb i &&& 7).toNatClampNeg → post (xit, xln, xrd, xop, xil, cnt, xml, wr, nI i, nI p, nI L, bby, bl, sm, st, tkn, nI d, beg, 4, nI i, beg, xk, xf, xs, wh, aa, bb, par, ri, rb, rv, oi, os, ot, inp, lst, mad, vr, sav))
    (H3 : ∀ q, q < 2 ^ 31 → vr (bb i &&& 7).toNatClampNeg = nI q → L < p + q → post (xit, xln, xrd, xop, xil, cnt, xml, wr, nI i, nI p, nI L, bby, bl, sm, st, tkn, nI d, beg, 3, nI i, beg, xk, xf, xs, wh, aa, bb, par, ri, rb, rv, oi, os, ot, inp, lst, mad, vr, sav))
    (H0 : ∀ q, q < 2 ^ 31 → vr (bb i &&& 7).toNatClampNeg = nI q → p + q ≤ L → post (xit, xln, xrd, xop, xil, cnt, xml, wr, nI (i + 1), nI p, nI (p + q), bby, bl, sm, st, tkn, nI (d + 1), beg, oc, plc, rch, xk, xf, xs, wh, aa, bb, par, ri, rb, rv, oi, os, ot, inp, lst, mad, vr, upd sav d (nI L))) : (wpX_control post (xit, xln, xrd, xop, xil, cnt, xml, wr, nI i, nI p, nI L, bby, bl, sm, st, tkn, nI d, beg, oc, plc, rch, xk, xf, xs, wh, aa, bb, par, ri, rb, rv, oi, os, ot, inp, lst, mad, vr, sav) 6) := by
  have hpc : vp_in (nI i) 41 := vp_in_nI hi (by decide)
  have ci : (nI i).toNatClampNeg = i := nI_clamp (by omega)
  refine And.intro hpc (nm_r (e' := bb i &&& 7) (by rw [ci]) (And.intro hpc (nm_e ?_)))
  refine br_f (by decide) (br_f (by decide) (br_f (by decide) (br_f (by decide) (br_t rfl (And.intro (fw_in7 _) (nm_e ⟨fun z => ?_, fun z => xx_end (by decide) (H4 z)⟩))))))
  obtain ⟨q, hq, e⟩ := nI_of (Int32.not_lt.mpr z)
  rw [pk_sub hp, e]
  refine pk_le q (L - p) (fun h => nm_r (nI_1 d) (And.intro (vp_in_nI hd (by decide)) (nm_r (e' := upd sav d (nI L)) (by rw [nI_clamp (by omega)]) (nm_r (nI_add p q) (nm_r (nI_1 i) (H0 q hq e (by omega))))))) (fun h => xx_end (by decide) (H3 q hq e (by omega)))
theorem st_6 {n B i m p b t k c : Nat} {s : List (Nat × Nat)} (R : (fw_RF n B i m p b t k c s xit xrd xil xml wr bby sm xk xf xs wh aa bb par ri rb rv inp mad sav yit yfd ymd yrd yks yas ybs yk yf ys yin you yop ynu)) (hi : i < n) (XI : ∀ (post : SX → Prop) (q : Nat), (wpX_item (fw_X66 post q) (xit, xln, xrd, xop, xil, nI c, xml, wr, nI i, nI p, nI (fw_LM yk B s), bby, nI b, sm, nI t, nI k, nI (fw_RK yk s), beg, (-1), plc, rch, xk, xf, xs, wh, aa, bb, par, ri, rb, rv, oi, os, ot, inp, lst, mad, vr, sav)) → fw_X66 post (q + 1) (xit, xln, xrd, xop, xil, nI c, xml, wr, nI i, nI p, nI (fw_LM yk B s), bby, nI b, sm, nI t, nI k, nI (fw_RK yk s), beg, (-1), plc, rch, xk, xf, xs, wh, aa, bb, par, ri, rb, rv, oi, os, ot, inp, lst, mad, vr, sav)) (ek : yk i = 6) : fw_ST wr i m (xit, xln, xrd, xop, xil, nI c, xml, wr, nI i, nI p, nI (fw_LM yk B s), bby, nI b, sm, nI t, nI k, nI (fw_RK yk s), beg, (-1), plc, rch, xk, xf, xs, wh, aa, bb, par, ri, rb, rv, oi, os, ot, inp, lst, mad, vr, sav) (yit, nI n, yfd, nI c, ymd, ysa, ytk, nI s.length, nI p, nI b, nI t, nI k, ynx, yra, yrd, yks, yas, ybs, yk, yf, ys, yin, lst, you, vr, yop, ynu, yse, yth) := by
  have hl := fw_len R
  have R' := R
  obtain ⟨_, F, M, D, S, _, ht, hkc, hc, hp, _⟩ := R'
  have hn := F.1
  have hB := fw_LM_le S
  have hB' := M.1
  rcases Nat.lt_or_ge t 400 with ht' | ht'
  rotate_left
  · exact st_many R hi XI ek (by decide) (by decide) (by decide) (Or.inl (by omega))
  obtain ⟨ew, ea, eb, _⟩ := F.2.1 i hi
  obtain ⟨w, P, _⟩ := F.2.2.2
  have ebb : bb i &&& 7 = ys i &&& 7 := by rw [eb]
  have hs1 := fw_st_op (K := yk) (i := i) (Or.inr (Or.inr ek))
  have hlen : s.length < 4 := by rw [fw_SK_len S]; exact w.2.2.1 i hi (Or.inr (Or.inr ek))
  have hrk := fw_RK_le yk s
  have hms := fw_MS_le S
  rcases st_close R hi ht' XI ek (Or.inr (Or.inr (Or.inr (Or.inl rfl)))) (fun z => absurd z (by decide)) with ⟨sm', mad', D', hX, hY⟩ | h
  rotate_left
  · exact h
  by_cases z : 0 ≤ vr (ys i &&& 7).toNatClampNeg
  · obtain ⟨q, hq, e⟩ := nI_of (Int32.not_lt.mpr z)
    have uq : ∀ q', q' < 2 ^ 31 → vr (ys i &&& 7).toNatClampNeg = nI q' → q' = q := by
      intro q' h1 h2
      rw [e] at h2
      exact ((nI_eq hq h1).mp h2).symm
    rcases Nat.lt_or_ge (fw_LM yk B s) (p + q) with g | g
    · refine st_fail R hi XI (h := 3) (by decide) (by decide) (pos' := nI p) (bl' := nI 0) (bby' := 0) (st' := nI (t + 1)) (yps' := nI p) (ybt' := nI 0) (yst' := nI (t + 1)) (ynx' := nI (i + 1)) (sm' := sm') D' (fun z => ⟨rfl, rfl, rfl, rfl⟩) (fun post H => hX post (x143_ctl (Or.inr (Or.inr (Or.inl rfl))) (xc_6 (by omega) (by omega) hp (by omega) ?_ ?_ ?_))) (fun post H => hY post (y113_begin (Or.inr (Or.inr rfl)) (by omega) (And.intro (fw_in7 _) (nm_e (br_f (by decide) (br_t rfl (br_t z (br_t rfl ?_))))))))
      · rw [ebb]; exact fun y => absurd z y
      · exact fun _ _ _ _ => H
      · rw [ebb]
        intro q' h1 h2 h3
        rw [uq q' h1 h2] at h3; omega
      · rw [e]
        exact yy_room M S hl hp hq (fun y => absurd y (by omega)) (fun _ => br_t rfl H)
    · have S' : fw_SK yk B (upd yop s.length (nI i)) (upd ynu s.length (nI (p + q))) (upd sav (fw_RK yk s) (nI (fw_LM yk B s))) ((i, p + q) :: s) (fw_st yk (i + 1)) := by
        rw [hs1]
        exact ⟨by omega, Or.inl rfl, pk_us, Or.inr (Or.inr ⟨ek, g, pk_us, pk_us⟩), fw_SK_frame (fun d hd => ⟨pk_un (by omega), pk_un (by omega)⟩) (fun r hr => pk_un (by omega)) S⟩
      have eL : fw_LM yk B ((i, p + q) :: s) = p + q := by rw [fw_LM, if_pos ek]
      have eR : fw_RK yk ((i, p + q) :: s) = fw_RK yk s + 1 := by rw [fw_RK, if_neg (by rw [ek]; decide)]
      have eM : fw_MS yk ((i, p + q) :: s) = fw_MS yk s := by rw [fw_MS, if_neg (by rw [ek]; decide)]
      refine st_go R (i' := i + 1) (t' := t + 1) (q0 := 1) D' S' (by omega) (by omega) hkc hc (by rw [eL]; omega) (by omega) (fw_ms_t1 (by omega) hn ht' (by omega)) (beg' := nI p) (lst' := lst) (vr' := vr) (ynx' := nI (i + 1)) (yra' := nI p) (fun post q H => XI post q (hX _ (x143_ctl (Or.inr (Or.inr (Or.inl rfl))) (xc_6 (by omega) (by omega) hp (by omega) ?_ ?_ ?_)))) (y50_ok hi hn (fun post H => hY post (y113_begin (Or.inr (Or.inr rfl)) (by omega) (And.intro (fw_in7 _) (nm_e (br_f (by decide) (br_t rfl (br_t z (br_t rfl ?_)))))))))
      · rw [ebb]; exact fun y => absurd z y
      · rw [ebb]
        intro q' h1 h2 h3
        rw [uq q' h1 h2] at h3; omega
      · rw [ebb]
        intro q' h1 h2 h3
        rw [uq q' h1 h2]
        rw [eL, eR] at H
        exact H
      · rw [e]
        refine yy_room M S hl hp hq (fun _ => br_f (by decide) (br_f (by decide) (yb_77 (by omega) (by omega) (by decide) (fun _ => ?_) (fun y => absurd rfl y)))) (fun y => absurd y (by omega))
        rw [nI_add]; exact H
  · refine st_fail R hi XI (h := 4) (by decide) (by decide) (pos' := nI p) (bl' := nI 0) (bby' := 0) (st' := nI (t + 1)) (yps' := nI p) (ybt' := nI 0) (yst' := nI (t + 1)) (ynx' := nI (i + 1)) (sm' := sm') D' (fun z => ⟨rfl, rfl, rfl, rfl⟩) (fun post H => hX post (x143_ctl (Or.inr (Or.inr (Or.inl rfl))) (xc_6 (by omega) (by omega) hp (by omega) (fun _ => H) ?_ ?_))) (fun post H => hY post (y113_begin (Or.inr (Or.inr rfl)) (by omega) (And.intro (fw_in7 _) (nm_e (br_f (by decide) (br_t rfl (br_f z H)))))))
    · rw [ebb]
      intro q' h1 h2 _
      rw [h2] at z
      exact absurd (nI_pos' h1) z
    · rw [ebb]
      intro q' h1 h2 _
      rw [h2] at z
      exact absurd (nI_pos' h1) z
theorem xc_12 {post : SX → Prop} {i : Nat} (hi : i < 41) (H : post (xit, xln, xrd, xop, xil, cnt, xml, wr, par i + 1, pos, lim, bby, bl, sm, st, tkn, dep, beg, oc, plc, rch, xk, xf, xs, wh, aa, bb, par, ri, rb, rv, oi, os, ot, inp, lst, mad, vr, sav)) : (wpX_control post (xit, xln, xrd, xop, xil, cnt, xml, wr, nI i, pos, lim, bby, bl, sm, st, tkn, dep, beg, oc, plc, rch, xk, xf, xs, wh, aa, bb, par, ri, rb, rv, oi, os, ot, inp, lst, mad, vr, sav) 12) := by
  have hpc : vp_in (nI i) 41 := vp_in_nI hi (by decide)
  have ci : (nI i).toNatClampNeg = i := nI_clamp (by omega)
  exact And.intro hpc (nm_e (And.intro hpc (nm_e (br_f (by decide) (br_f (by decide) (br_f (by decide) (br_f (by decide) (br_f (by decide) (br_f (by decide) (br_f (by decide) (br_f (by decide) (br_f (by decide) (br_f (by decide) (br_t rfl (And.intro hpc (nm_r (by rw [ci]) H))))))))))))))))
theorem st_12 {n B i m p b t k c : Nat} {s : List (Nat × Nat)} (R : (fw_RF n B i m p b t k c s xit xrd xil xml wr bby sm xk xf xs wh aa bb par ri rb rv inp mad sav yit yfd ymd yrd yks yas ybs yk yf ys yin you yop ynu)) (hi : i < n) (XI : ∀ (post : SX → Prop) (q : Nat), (wpX_item (fw_X66 post q) (xit, xln, xrd, xop, xil, nI c, xml, wr, nI i, nI p, nI (fw_LM yk B s), bby, nI b, sm, nI t, nI k, nI (fw_RK yk s), beg, (-1), plc, rch, xk, xf, xs, wh, aa, bb, par, ri, rb, rv, oi, os, ot, inp, lst, mad, vr, sav)) → fw_X66 post (q + 1) (xit, xln, xrd, xop, xil, nI c, xml, wr, nI i, nI p, nI (fw_LM yk B s), bby, nI b, sm, nI t, nI k, nI (fw_RK yk s), beg, (-1), plc, rch, xk, xf, xs, wh, aa, bb, par, ri, rb, rv, oi, os, ot, inp, lst, mad, vr, sav)) (ek : yk i = 12) : fw_ST wr i m (xit, xln, xrd, xop, xil, nI c, xml, wr, nI i, nI p, nI (fw_LM yk B s), bby, nI b, sm, nI t, nI k, nI (fw_RK yk s), beg, (-1), plc, rch, xk, xf, xs, wh, aa, bb, par, ri, rb, rv, oi, os, ot, inp, lst, mad, vr, sav) (yit, nI n, yfd, nI c, ymd, ysa, ytk, nI s.length, nI p, nI b, nI t, nI k, ynx, yra, yrd, yks, yas, ybs, yk, yf, ys, yin, lst, you, vr, yop, ynu, yse, yth) := by
  have hl := fw_len R
  have R' := R
  obtain ⟨_, F, M, D, S, _, ht, hkc, hc, hp, _⟩ := R'
  have hn := F.1
  obtain ⟨ew, ea, eb, _⟩ := F.2.1 i hi
  rw [ek] at ew
  obtain ⟨w, P, _⟩ := F.2.2.2
  obtain ⟨o, tl, h1, h2⟩ := w.1 i hi ek
  have hs1 := fw_st_12 (K := yk) (i := i) ek
  have hlen4 := fw_st_len w i (by omega)
  rw [h1] at hs1 S hlen4
  cases s with
  | nil => exact S.elim
  | cons a s =>
    obtain ⟨x, v⟩ := a
    obtain ⟨hx, hox, hop, _, S1⟩ := S
    have kx : yk x = 5 := by
      rcases hox with rfl | ⟨h, _⟩
      · exact h2
      · exact h
    obtain ⟨e, e1, e2, e3, e4, eY⟩ := yy_endOf (yit := yit) (ysz := nI n) (yfd := yfd) (yls := nI c) (ymd := ymd) (ysa := ysa) (ytk := ytk) (ydp := nI (s.length + 1)) (yps := nI p) (ybt := nI b) (yst := nI t) (yus := nI k) (ynx := nI (i + 1)) (yra := nI p) (yrd := yrd) (yks := yks) (yas := yas) (ybs := ybs) (yk := yk) (yf := yf) (ys := ys) (yin := yin) (yli := lst) (you := you) (yva := vr) (yop := yop) (ynu := ynu) (yse := yse) (yth := yth) (o := i) (r := tl) w hn (by rw [ek]; decide) (n - i) i [] (by omega) hi hs1 (by simp)
    obtain ⟨_, pe⟩ := fw_PT13 P e2 e3 e4
    have es : fw_st yk (e + 1) = tl := by rw [fw_st_13 e3, e4]; rfl
    have eL : fw_LM yk B ((x, v) :: s) = fw_LM yk B s := by rw [fw_LM, if_neg (by rw [kx]; decide)]
    have eR : fw_RK yk ((x, v) :: s) = fw_RK yk s := by rw [fw_RK, if_pos kx]
    have eM : fw_MS yk ((x, v) :: s) = fw_MS yk s := by rw [fw_MS, if_neg (by rw [kx]; decide)]
    rw [List.length_cons] at hl
    refine st_go R (i' := e + 1) (t' := t) (q0 := 1 + 1) (s' := s) D (by rw [es]; exact S1) (by omega) ht hkc hc (by rw [← eL]; exact hp) (by omega) (by unfold fw_ms; rw [eM]; omega) (beg' := nI p) (lst' := lst) (vr' := vr) (ynx' := nI (e + 1)) (yra' := nI p) (fun post q H => XI post q (xi_12 ew (by omega) (x143_ctl (Or.inr (Or.inr (Or.inr (Or.inr (Or.inr (Or.inr (Or.inl rfl))))))) (xc_12 (by omega) ?_)))) (fun post q H => y50_ok (zra := nI p) hi hn (fun post H => And.intro (vp_in_nI (by omega) (by decide)) (nm_r (e' := 12) (by rw [nI_clamp (by omega)]; exact ek) (br_f (by decide) (br_t rfl ⟨n - i + 1, eY _ H _ (by omega)⟩)))) post (q + 1) (y50_ok e2 hn (fun post H => yi_end5 (by omega) e3 (by omega) hop hx kx H) post q H))
    rw [pe, nI_1, eL, eR]
    exact H
/-! the component's END -/
theorem xc_13 {post : SX → Prop} {i o : Nat} {kk : Int32} (hi : i < 41) (ho : o < 41) (hpo : par i = nI o) (hk : wh o = kk)
    (H4 : kk = 4 → vp_in (dep - 1) 4 ∧ ∀ y, y = upd sav (dep - 1).toNatClampNeg (sav (dep - 1).toNatClampNeg - 1) → ((y (dep - 1).toNatClampNeg ≤ 0 → post (xit, xln, xrd, xop, xil, cnt, xml, wr, nI (i + 1), pos, lim, bby, bl, sm, st, tkn, dep - 1, beg, oc, plc, rch, xk, xf, xs, wh, aa, bb, par, ri, rb, rv, oi, os, ot, inp, lst, mad, vr, y)) ∧ (¬ y (dep - 1).toNatClampNeg ≤ 0 → post (xit, xln, xrd, xop, xil, cnt, xml, wr, nI (o + 1), pos, lim, bby, bl, sm, st, tkn, dep, beg, oc, plc, rch, xk, xf, xs, wh, aa, bb, par, ri, rb, rv, oi, os, ot, inp, lst, mad, vr, y))))
    (H6 : kk = 6 → (pos = lim → vp_in (dep - 1) 4 ∧ post (xit, xln, xrd, xop, xil, cnt, xml, wr, nI (i + 1), pos, sav (dep - 1).toNatClampNeg, bby, bl, sm, st, tkn, dep - 1, beg, oc, plc, rch, xk, xf, xs, wh, aa, bb, par, ri, rb, rv, oi, os, ot, inp, lst, mad, vr, sav)) ∧ (¬ pos = lim → post (xit, xln, xrd, xop, xil, cnt, xml, wr, nI i, pos, lim, bby, bl, sm, st, tkn, dep, beg, 7, nI i, beg, xk, xf, xs, wh, aa, bb, par, ri, rb, rv, oi, os, ot, inp, lst, mad, vr, sav)))
    (H : ¬ kk = 4 → ¬ kk = 6 → post (xit, xln, xrd, xop, xil, cnt, xml, wr, nI (i + 1), pos, lim, bby, bl, sm, st, tkn, dep, beg, oc, plc, rch, xk, xf, xs, wh, aa, bb, par, ri, rb, rv, oi, os, ot, inp, lst, mad, vr, sav)) : (wpX_control post (xit, xln, xrd, xop, xil, cnt, xml, wr, nI i, pos, lim, bby, bl, sm, st, tkn, dep, beg, oc, plc, rch, xk, xf, xs, wh, aa, bb, par, ri, rb, rv, oi, os, ot, inp, lst, mad, vr, sav) 13) := by
  have hpc : vp_in (nI i) 41 := vp_in_nI hi (by decide)
  have ci : (nI i).toNatClampNeg = i := nI_clamp (by omega)
  have co : (nI o).toNatClampNeg = o := nI_clamp (by omega)
  refine And.intro hpc (nm_e (And.intro hpc (nm_e (br_f (by decide) (br_f (by decide) (br_f (by decide) (br_f (by decide) (br_f (by decide) (br_f (by decide) (br_f (by decide) (br_f (by decide) (br_f (by decide) (br_f (by decide) (br_f (by decide) (br_t rfl (And.intro hpc ?_))))))))))))))))
  rw [ci, hpo, co, hk, nI_1 o]
  refine And.intro (vp_in_nI ho (by decide)) (nm_e ⟨fun z => ?_, fun z => ⟨fun z6 => ⟨fun g => ?_, fun g => xx_end (by decide) ((H6 z6).2 g)⟩, fun z6 => nm_r (nI_1 i) (H z z6)⟩⟩)
  · obtain ⟨a, b⟩ := H4 z
    exact And.intro a (And.intro a (fun y ey => And.intro a ⟨fun g => nm_e (nm_r (nI_1 i) ((b y ey).1 g)), fun g => And.intro hpc (nm_e ((b y ey).2 g))⟩))
  · obtain ⟨a, b⟩ := (H6 z6).1 g
    exact nm_e (And.intro a (nm_e (nm_r (nI_1 i) b)))
/-! the reference's END -/
theorem yi_end4 {post : Int32 → SY → Prop} {e o d v : Nat} (he : e < 40) (ek : yk e = 13) (hd : d < 5) (eo : yop d = nI o) (ho : o < 40) (ko : yk o = 4) (ev : ynu d = nI (v + 1)) (hv : v < 40)
    (H0 : v = 0 → post 0 (yit, ysz, yfd, yls, ymd, ysa, ytk, nI d, yps, ybt, yst, yus, ynx, yra, yrd, yks, yas, ybs, yk, yf, ys, yin, yli, you, yva, yop, upd ynu d (nI v), yse, yth)) (H1 : 0 < v → post 0 (yit, ysz, yfd, yls, ymd, ysa, ytk, nI (d + 1), yps, ybt, yst, yus, nI (o + 1), yra, yrd, yks, yas, ybs, yk, yf, ys, yin, yli, you, yva, yop, upd ynu d (nI v), yse, yth)) : (wpY_item post (yit, ysz, yfd, yls, ymd, ysa, ytk, nI (d + 1), yps, ybt, yst, yus, ynx, yra, yrd, yks, yas, ybs, yk, yf, ys, yin, yli, you, yva, yop, ynu, yse, yth) (nI e)) := by
  have hin : vp_in (nI d) 5 := vp_in_nI hd (by decide)
  have cd : (nI d).toNatClampNeg = d := nI_clamp (by omega)
  have co : (nI o).toNatClampNeg = o := nI_clamp (by omega)
  refine And.intro (vp_in_nI he (by decide)) (nm_r (e' := 13) (by rw [nI_clamp (by omega)]; exact ek) (br_t rfl (nm_r (e' := nI d) (nI_pred d) (And.intro hin (And.intro (by rw [cd, eo]; exact vp_in_nI ho (by decide)) (nm_r (e' := 4) (by rw [cd, eo, co]; exact ko) (br_f (by decide) (br_t rfl (And.intro hin (And.intro hin (nm_r (e' := upd ynu d (nI v)) (by rw [cd, ev, nI_pred]) (And.intro hin ?_))))))))))))
  rw [cd, pk_us, eo]
  exact pk_le v 0 (fun h => nm_r (nI_pred d) (H0 (by omega))) (fun h => And.intro hin (nm_r (nI_1 o) (H1 h)))
def fw_Ye (post : Int32 → SY → Prop) (x2 : Int32) (r : Int32) (v : SY) : Prop := match v with
  | (yit, ysz, yfd, yls, ymd, ysa, ytk, ydp, yps, ybt, yst, yus, ynx, yra, yrd, yks, yas, ybs, yk, yf, ys, yin, yli, you, yva, yop, ynu, yse, yth) => (r = 0 → vp_in x2 5 ∧ ((yps = ynu x2.toNatClampNeg → (wY_end_55 post x2 6 yit ysz yfd yls ymd ysa ytk ydp yps ybt yst yus ynx yra yrd yks yas ybs yk yf ys yin yli you yva yop ynu yse yth)) ∧ (¬ yps = ynu x2.toNatClampNeg → post 7 (yit, ysz, yfd, yls, ymd, ysa, ytk, ydp, yps, ybt, yst, yus, ynx, yra, yrd, yks, yas, ybs, yk, yf, ys, yin, yli, you, yva, yop, ynu, yse, yth)))) ∧ (¬ r = 0 → post r (yit, ysz, yfd, yls, ymd, ysa, ytk, ydp, yps, ybt, yst, yus, ynx, yra, yrd, yks, yas, ybs, yk, yf, ys, yin, yli, you, yva, yop, ynu, yse, yth))
theorem yi_end6 {post : Int32 → SY → Prop} {e o d : Nat} (he : e < 40) (ek : yk e = 13) (hd : d < 5) (eo : yop d = nI o) (ho : o < 40) (ko : yk o = 6) (H : (wpY_close (fw_Ye (fw_Yid post) (nI d)) (yit, ysz, yfd, yls, ymd, ysa, ytk, nI (d + 1), yps, ybt, yst, yus, ynx, yra, yrd, yks, yas, ybs, yk, yf, ys, yin, yli, you, yva, yop, ynu, yse, yth))) : (wpY_item post (yit, ysz, yfd, yls, ymd, ysa, ytk, nI (d + 1), yps, ybt, yst, yus, ynx, yra, yrd, yks, yas, ybs, yk, yf, ys, yin, yli, you, yva, yop, ynu, yse, yth) (nI e)) := by
  have hin : vp_in (nI d) 5 := vp_in_nI hd (by decide)
  have cd : (nI d).toNatClampNeg = d := nI_clamp (by omega)
  have co : (nI o).toNatClampNeg = o := nI_clamp (by omega)
  exact And.intro (vp_in_nI he (by decide)) (nm_r (e' := 13) (by rw [nI_clamp (by omega)]; exact ek) (br_t rfl (nm_r (e' := nI d) (nI_pred d) (And.intro hin (And.intro (by rw [cd, eo]; exact vp_in_nI ho (by decide)) (nm_r (e' := 6) (by rw [cd, eo, co]; exact ko) (br_t rfl H)))))))
theorem fw_ms_n {n i t : Nat} {yk : Nat → Int32} {s s' : List (Nat × Nat)} (hi : i < n) (h : fw_MS yk s' ≤ fw_MS yk s) : fw_ms n (i + 1) t yk s' + 1 ≤ fw_ms n i t yk s := by
  unfold fw_ms; omega
theorem st_13 {n B i m p b t k c : Nat} {s : List (Nat × Nat)} (R : (fw_RF n B i m p b t k c s xit xrd xil xml wr bby sm xk xf xs wh aa bb par ri rb rv inp mad sav yit yfd ymd yrd yks yas ybs yk yf ys yin you yop ynu)) (hi : i < n) (XI : ∀ (post : SX → Prop) (q : Nat), (wpX_item (fw_X66 post q) (xit, xln, xrd, xop, xil, nI c, xml, wr, nI i, nI p, nI (fw_LM yk B s), bby, nI b, sm, nI t, nI k, nI (fw_RK yk s), beg, (-1), plc, rch, xk, xf, xs, wh, aa, bb, par, ri, rb, rv, oi, os, ot, inp, lst, mad, vr, sav)) → fw_X66 post (q + 1) (xit, xln, xrd, xop, xil, nI c, xml, wr, nI i, nI p, nI (fw_LM yk B s), bby, nI b, sm, nI t, nI k, nI (fw_RK yk s), beg, (-1), plc, rch, xk, xf, xs, wh, aa, bb, par, ri, rb, rv, oi, os, ot, inp, lst, mad, vr, sav)) (ek : yk i = 13) : fw_ST wr i m (xit, xln, xrd, xop, xil, nI c, xml, wr, nI i, nI p, nI (fw_LM yk B s), bby, nI b, sm, nI t, nI k, nI (fw_RK yk s), beg, (-1), plc, rch, xk, xf, xs, wh, aa, bb, par, ri, rb, rv, oi, os, ot, inp, lst, mad, vr, sav) (yit, nI n, yfd, nI c, ymd, ysa, ytk, nI s.length, nI p, nI b, nI t, nI k, ynx, yra, yrd, yks, yas, ybs, yk, yf, ys, yin, lst, you, vr, yop, ynu, yse, yth) := by
  have hl := fw_len R
  have R' := R
  obtain ⟨_, F, M, D, S, _, ht, hkc, hc, hp, _⟩ := R'
  have hn := F.1
  have hB := fw_LM_le S
  have hB' := M.1
  obtain ⟨ew, ea, eb, _⟩ := F.2.1 i hi
  rw [ek] at ew
  obtain ⟨w, P, _⟩ := F.2.2.2
  obtain ⟨x, tl, h1⟩ := w.2.1 i hi ek
  obtain ⟨pi, px⟩ := fw_PT13 P hi ek h1
  have hs1 := fw_st_13 (K := yk) (i := i) ek
  have hxm := fw_st_lt (K := yk) i x (by rw [h1]; exact List.mem_cons_self)
  have hsx := fw_st_suf (K := yk) i [] x tl h1
  rw [h1] at hs1 S
  have wx : wh x = yk x := (F.2.1 x (by omega)).1
  cases s with
  | nil => exact S.elim
  | cons a s =>
    obtain ⟨o, v⟩ := a
    obtain ⟨ho, hox, hop, hent, S1⟩ := S
    rw [List.length_cons] at hl
    have hrk := fw_RK_le yk s
    rcases hent with ⟨k4, v1, v32, nv, sv⟩ | k5 | ⟨k6, vL, nv, sv⟩
    · have ox : o = x := by
        rcases hox with h | ⟨h, _⟩
        · exact h
        · rw [k4] at h; exact absurd h (by decide)
      subst ox
      obtain ⟨u, rfl⟩ : ∃ u, v = u + 1 := ⟨v - 1, by omega⟩
      have eL : ∀ v, fw_LM yk B ((o, v) :: s) = fw_LM yk B s := fun v => by rw [fw_LM, if_neg (by rw [k4]; decide)]
      have eR : ∀ v, fw_RK yk ((o, v) :: s) = fw_RK yk s + 1 := fun v => by rw [fw_RK, if_neg (by rw [k4]; decide)]
      have eM : ∀ v, fw_MS yk ((o, v) :: s) = fw_MS yk s + v := fun v => by rw [fw_MS, if_pos k4]
      have SF : fw_SK yk B yop (upd ynu s.length (nI u)) (upd sav (fw_RK yk s) (nI u)) s tl := fw_SK_frame (fun d hd => ⟨rfl, pk_un (by omega)⟩) (fun r hr => pk_un (by omega)) S1
      have XX : ∀ post : SX → Prop, (u = 0 → post (xit, xln, xrd, xop, xil, nI c, xml, wr, nI (i + 1), nI p, nI (fw_LM yk B ((o, u + 1) :: s)), bby, nI b, sm, nI t, nI k, nI (fw_RK yk s), nI p, (-1), plc, rch, xk, xf, xs, wh, aa, bb, par, ri, rb, rv, oi, os, ot, inp, lst, mad, vr, upd sav (fw_RK yk s) (nI u))) → (0 < u → post (xit, xln, xrd, xop, xil, nI c, xml, wr, nI (o + 1), nI p, nI (fw_LM yk B ((o, u + 1) :: s)), bby, nI b, sm, nI t, nI k, nI (fw_RK yk s + 1), nI p, (-1), plc, rch, xk, xf, xs, wh, aa, bb, par, ri, rb, rv, oi, os, ot, inp, lst, mad, vr, upd sav (fw_RK yk s) (nI u))) → (wpX_item post (xit, xln, xrd, xop, xil, nI c, xml, wr, nI i, nI p, nI (fw_LM yk B ((o, u + 1) :: s)), bby, nI b, sm, nI t, nI k, nI (fw_RK yk ((o, u + 1) :: s)), beg, (-1), plc, rch, xk, xf, xs, wh, aa, bb, par, ri, rb, rv, oi, os, ot, inp, lst, mad, vr, sav)) := by
        intro post G0 G1
        refine xi_13 ew (by omega) (by omega) pi (fun z => ?_) (fun _ => x143_ctl (Or.inr (Or.inr (Or.inr (Or.inr (Or.inr (Or.inr (Or.inr (Or.inl rfl)))))))) (xc_13 (by omega) (by omega) pi (wx.trans k4) (fun _ => ?_) (fun z => absurd z (by decide)) (fun z => absurd rfl z)))
        · rw [wx, k4] at z; exact absurd z (by decide)
        · rw [eR, nI_pred, nI_clamp (by omega), sv, nI_pred]
          refine ⟨vp_in_nI (by omega) (by decide), fun y ey => ?_⟩
          subst ey
          rw [pk_us]
          exact pk_le u 0 (fun h => G0 (by omega)) (fun h => G1 h)
      rcases Nat.eq_zero_or_pos u with u0 | u0
      · refine st_go R (i' := i + 1) (t' := t) (q0 := 1) (s' := s) (sav' := upd sav (fw_RK yk s) (nI u)) (yop' := yop) (ynu' := upd ynu s.length (nI u)) D (by rw [hs1]; exact SF) (by omega) ht hkc hc (by rw [← eL]; exact hp) (by omega) (fw_ms_n hi (by rw [eM]; omega)) (beg' := nI p) (lst' := lst) (vr' := vr) (ynx' := nI (i + 1)) (yra' := nI p) (fun post q H => XI post q (XX _ (fun _ => ?_) (fun z => absurd z (by omega)))) (y50_ok hi hn (fun post H => yi_end4 (by omega) ek (by omega) hop ho k4 nv (by omega) (fun _ => H) (fun z => absurd z (by omega))))
        rw [eL]; exact H
      · have S' : fw_SK yk B yop (upd ynu s.length (nI u)) (upd sav (fw_RK yk s) (nI u)) ((o, u) :: s) (fw_st yk (o + 1)) := by
          rw [hsx]
          exact ⟨ho, Or.inl rfl, hop, Or.inl ⟨k4, u0, by omega, pk_us, pk_us⟩, SF⟩
        refine st_go R (i' := o + 1) (t' := t) (q0 := 1) (s' := (o, u) :: s) (sav' := upd sav (fw_RK yk s) (nI u)) (yop' := yop) (ynu' := upd ynu s.length (nI u)) D S' (by omega) ht hkc hc (by rw [eL]; rw [eL] at hp; exact hp) (by omega) (by unfold fw_ms; rw [eM, eM]; omega) (beg' := nI p) (lst' := lst) (vr' := vr) (ynx' := nI (o + 1)) (yra' := nI p) (fun post q H => XI post q (XX _ (fun z => absurd z (by omega)) (fun _ => ?_))) (y50_ok hi hn (fun post H => yi_end4 (by omega) ek (by omega) hop ho k4 nv (by omega) (fun z => absurd z (by omega)) (fun _ => H)))
        rw [eL]
        rw [eL, eR] at H
        exact H
    · have kx : yk x = 5 ∨ yk x = 12 := by
        rcases hox with h | ⟨_, h⟩
        · rw [← h]; exact Or.inl k5
        · exact Or.inr h
      have kx4 : ¬ wh x = 4 := by rw [wx]; rcases kx with h | h <;> rw [h] <;> decide
      have kx6 : ¬ wh x = 6 := by rw [wx]; rcases kx with h | h <;> rw [h] <;> decide
      have eL : fw_LM yk B ((o, v) :: s) = fw_LM yk B s := by rw [fw_LM, if_neg (by rw [k5]; decide)]
      have eR : fw_RK yk ((o, v) :: s) = fw_RK yk s := by rw [fw_RK, if_pos k5]
      have eM : fw_MS yk ((o, v) :: s) = fw_MS yk s := by rw [fw_MS, if_neg (by rw [k5]; decide)]
      refine st_go R (i' := i + 1) (t' := t) (q0 := 1) (s' := s) D (by rw [hs1]; exact S1) (by omega) ht hkc hc (by rw [← eL]; exact hp) (by omega) (fw_ms_n hi (by rw [eM]; omega)) (beg' := nI p) (lst' := lst) (vr' := vr) (ynx' := nI (i + 1)) (yra' := nI p) (fun post q H => XI post q (xi_13 ew (by omega) (by omega) pi (fun z => absurd z kx6) (fun _ => x143_ctl (Or.inr (Or.inr (Or.inr (Or.inr (Or.inr (Or.inr (Or.inr (Or.inl rfl)))))))) (xc_13 (by omega) (by omega) pi rfl (fun z => absurd z kx4) (fun z => absurd z kx6) (fun _ _ => ?_))))) (y50_ok hi hn (fun post H => yi_end5 (by omega) ek (by omega) hop ho k5 H))
      rw [eL, eR]; exact H
    · have ox : o = x := by
        rcases hox with h | ⟨h, _⟩
        · exact h
        · rw [k6] at h; exact absurd h (by decide)
      subst ox
      have eL : fw_LM yk B ((o, v) :: s) = v := by rw [fw_LM, if_pos k6]
      have eR : fw_RK yk ((o, v) :: s) = fw_RK yk s + 1 := by rw [fw_RK, if_neg (by rw [k6]; decide)]
      have eM : fw_MS yk ((o, v) :: s) = fw_MS yk s := by rw [fw_MS, if_neg (by rw [k6]; decide)]
      rw [eL] at hp
      have k6w : wh o = 6 := wx.trans k6
      rcases jj_close (xit := xit) (xln := xln) (xrd := xrd) (xop := xop) (xil := xil) (cnt := nI c) (xml := xml) (wr := wr) (pc := nI i) (lim := nI (fw_LM yk B ((o, v) :: s))) (bby := bby) (sm := sm) (st := nI t) (tkn := nI k) (dep := nI (fw_RK yk ((o, v) :: s))) (beg := nI p) (oc := (-1)) (plc := plc) (rch := rch) (xk := xk) (xf := xf) (xs := xs) (wh := wh) (aa := aa) (bb := bb) (par := par) (ri := ri) (rb := rb) (rv := rv) (oi := oi) (os := os) (ot := ot) (inp := inp) (lst := lst) (mad := mad) (vr := vr) (sav := sav) (yit := yit) (ysz := nI n) (yfd := yfd) (yls := nI c) (ymd := ymd) (ysa := ysa) (ytk := ytk) (ydp := nI (s.length + 1)) (yst := nI t) (yus := nI k) (ynx := nI (i + 1)) (yra := nI p) (yrd := yrd) (yks := yks) (yas := yas) (ybs := ybs) (yk := yk) (yf := yf) (ys := ys) (yin := yin) (yli := lst) (you := you) (yva := vr) (yop := yop) (ynu := ynu) (yse := yse) (yth := yth) D M with ⟨sm', mad', D', hX, hY⟩ | ⟨rfl, hX, hY⟩
      · have XX : ∀ post : SX → Prop, (p = v → post (xit, xln, xrd, xop, xil, nI c, xml, wr, nI (i + 1), nI p, nI (fw_LM yk B s), 0, nI 0, sm', nI t, nI k, nI (fw_RK yk s), nI p, (-1), plc, rch, xk, xf, xs, wh, aa, bb, par, ri, rb, rv, oi, os, ot, inp, lst, mad', vr, sav)) → (¬ p = v → post (xit, xln, xrd, xop, xil, nI c, xml, wr, nI i, nI p, nI v, 0, nI 0, sm', nI t, nI k, nI (fw_RK yk s + 1), nI p, 7, nI i, nI p, xk, xf, xs, wh, aa, bb, par, ri, rb, rv, oi, os, ot, inp, lst, mad', vr, sav)) → (wpX_item post (xit, xln, xrd, xop, xil, nI c, xml, wr, nI i, nI p, nI (fw_LM yk B ((o, v) :: s)), bby, nI b, sm, nI t, nI k, nI (fw_RK yk ((o, v) :: s)), beg, (-1), plc, rch, xk, xf, xs, wh, aa, bb, par, ri, rb, rv, oi, os, ot, inp, lst, mad, vr, sav)) := by
          intro post G0 G1
          refine xi_13 ew (by omega) (by omega) pi (fun _ => hX _ (x143_ctl (Or.inr (Or.inr (Or.inr (Or.inr (Or.inr (Or.inr (Or.inr (Or.inl rfl)))))))) (xc_13 (by omega) (by omega) pi k6w (fun z => absurd z (by decide)) (fun _ => ?_) (fun _ z => absurd rfl z)))) (fun z => absurd k6w z)
          rw [eL, eR, nI_pred, nI_clamp (by omega), sv, nI_eq (by omega) (by omega)]
          exact ⟨fun h => ⟨vp_in_nI (by omega) (by decide), G0 h⟩, fun h => G1 h⟩
        have YY : ∀ post : Int32 → SY → Prop, (p = v → post 0 (yit, nI n, yfd, nI c, ymd, ysa, ytk, nI s.length, nI p, nI 0, nI t, nI k, nI (i + 1), nI p, yrd, yks, yas, ybs, yk, yf, ys, yin, lst, you, vr, yop, ynu, yse, yth)) → (¬ p = v → post 7 (yit, nI n, yfd, nI c, ymd, ysa, ytk, nI (s.length + 1), nI p, nI 0, nI t, nI k, nI (i + 1), nI p, yrd, yks, yas, ybs, yk, yf, ys, yin, lst, you, vr, yop, ynu, yse, yth)) → (wpY_item post (yit, nI n, yfd, nI c, ymd, ysa, ytk, nI (s.length + 1), nI p, nI b, nI t, nI k, nI (i + 1), nI p, yrd, yks, yas, ybs, yk, yf, ys, yin, lst, you, vr, yop, ynu, yse, yth) (nI i)) := by
          intro post G0 G1
          refine yi_end6 (by omega) ek (by omega) hop ho k6 (hY _ (br_t rfl (And.intro (vp_in_nI (by omega) (by decide)) ?_)))
          rw [nI_clamp (by omega), nv, nI_eq (by omega) (by omega)]
          exact ⟨fun h => br_f (by decide) (nm_r (nI_pred _) (G0 h)), fun h => G1 h⟩
        by_cases g : p = v
        · exact st_go R (i' := i + 1) (t' := t) (q0 := 1) (s' := s) D' (by rw [hs1]; exact S1) (by omega) ht hkc hc (by omega) (by omega) (fw_ms_n hi (by rw [eM]; omega)) (beg' := nI p) (lst' := lst) (vr' := vr) (ynx' := nI (i + 1)) (yra' := nI p) (fun post q H => XI post q (XX _ (fun _ => H) (fun z => absurd g z))) (y50_ok hi hn (fun post H => YY post (fun _ => H) (fun z => absurd g z)))
        · refine st_fail R hi XI (h := 7) (by decide) (by decide) (pos' := nI p) (bl' := nI 0) (bby' := 0) (st' := nI t) (yps' := nI p) (ybt' := nI 0) (yst' := nI t) (ynx' := nI (i + 1)) (sm' := sm') D' (fun z => ⟨rfl, rfl, rfl, rfl⟩) (fun post H => XX _ (fun z => absurd z g) (fun _ => ?_)) (fun post H => YY post (fun z => absurd z g) (fun _ => H))
          rw [eL, eR] at H
          exact H
      · exact st_fail R hi XI (h := 6) (by decide) (by decide) (pos' := nI p) (bl' := 0) (bby' := 0) (st' := nI t) (yps' := nI p) (ybt' := nI b) (yst' := nI t) (ynx' := nI (i + 1)) (sm' := sm) D (fun z => absurd z (by decide)) (fun post H => xi_13 ew (by omega) (by omega) pi (fun _ => hX _ (br_f (by decide) H)) (fun z => absurd k6w z)) (fun post H => yi_end6 (by omega) ek (by omega) hop ho k6 (hY _ (br_f (by decide) H)))
end
section
/-! the end of the format, and runs of plain items -/
variable {xit xln xrd xop xil cnt xml wr pc pos lim bby bl sm st tkn dep beg oc plc rch : Int32} {xk xf xs wh aa bb par ri rb rv oi os ot inp lst mad vr sav : Nat → Int32} {yit ysz yfd yls ymd ysa ytk ydp yps ybt yst yus ynx yra yrd : Int32} {yks yas ybs yk yf ys yin yli you yva yop ynu yse yth : Nat → Int32}
theorem xc_14 {post : SX → Prop} {i p L k c : Nat} (hi : i < 41) (hp : p ≤ 64) (hL : L ≤ 64) (hk : k ≤ c) (hc : c ≤ 40) (hw : wr = 0 ∨ wr = 1)
    (H0 : (wr = 0 → p = L) → (wr = 1 → k = c) → post (xit, xln, xrd, xop, xil, nI c, xml, wr, nI i, nI p, nI L, bby, bl, sm, st, nI k, dep, beg, 0, (-1), nI p, xk, xf, xs, wh, aa, bb, par, ri, rb, rv, oi, os, ot, inp, lst, mad, vr, sav))
    (H7 : ¬ ((wr = 0 → p = L) ∧ (wr = 1 → k = c)) → post (xit, xln, xrd, xop, xil, nI c, xml, wr, nI i, nI p, nI L, bby, bl, sm, st, nI k, dep, beg, 7, nI i, beg, xk, xf, xs, wh, aa, bb, par, ri, rb, rv, oi, os, ot, inp, lst, mad, vr, sav)) : (wpX_control post (xit, xln, xrd, xop, xil, nI c, xml, wr, nI i, nI p, nI L, bby, bl, sm, st, nI k, dep, beg, oc, plc, rch, xk, xf, xs, wh, aa, bb, par, ri, rb, rv, oi, os, ot, inp, lst, mad, vr, sav) 14) := by
  have hpc : vp_in (nI i) 41 := vp_in_nI hi (by decide)
  refine And.intro hpc (nm_e (And.intro hpc (nm_e (br_f (by decide) (br_t (by decide) ?_)))))
  rcases hw with rfl | rfl
  · refine br_t rfl (pk_eq p L (fun h => br_f (by decide) (xx_end0 (H0 (fun _ => h) (fun z => absurd z (by decide))))) (fun h => br_t rfl (xx_end (by decide) (H7 (fun z => h (z.1 rfl))))))
  · refine br_f (by decide) (pk_eq k c (fun h => br_f (by decide) (xx_end0 (H0 (fun z => absurd z (by decide)) (fun _ => h)))) (fun h => br_t rfl (xx_end (by decide) (H7 (fun z => h (z.2 rfl))))))
/-- the reference behind its last item -/
def fw_Yz (post : Int32 → SY → Prop) (x2 : Int32) (r : Int32) (v : SY) : Prop := match v with
  | (yit, ysz, yfd, yls, ymd, ysa, ytk, ydp, yps, ybt, yst, yus, ynx, yra, yrd, yks, yas, ybs, yk, yf, ys, yin, yli, you, yva, yop, ynu, yse, yth) => (r = 0 → ((yrd = 0 → ((yls ≤ yus → (wY_run_151 post r x2 yit ysz yfd yls ymd ysa ytk ydp yps ybt yst yus ynx yra yrd yks yas ybs yk yf ys yin yli you yva yop ynu yse yth)) ∧ (¬ yls ≤ yus → (wY_run_148 post x2 yit ysz yfd yls ymd ysa ytk ydp yps ybt yst yus ynx yra yrd yks yas ybs yk yf ys yin yli you yva yop ynu yse yth)))) ∧ (¬ yrd = 0 → ((yfd ≤ yps → (wY_run_151 post r x2 yit ysz yfd yls ymd ysa ytk ydp yps ybt yst yus ynx yra yrd yks yas ybs yk yf ys yin yli you yva yop ynu yse yth)) ∧ (¬ yfd ≤ yps → (wY_run_148 post x2 yit ysz yfd yls ymd ysa ytk ydp yps ybt yst yus ynx yra yrd yks yas ybs yk yf ys yin yli you yva yop ynu yse yth)))))) ∧ (¬ r = 0 → (wY_run_151 post r x2 yit ysz yfd yls ymd ysa ytk ydp yps ybt yst yus ynx yra yrd yks yas ybs yk yf ys yin yli you yva yop ynu yse yth))
theorem y50_end {post : Int32 → SY → Prop} {n q : Nat} (hn : n ≤ 40) (H : (wpY_close (fw_Yz post (nI n)) (yit, nI n, yfd, yls, ymd, ysa, ytk, ydp, yps, ybt, yst, yus, ynx, yps, yrd, yks, yas, ybs, yk, yf, ys, yin, yli, you, yva, yop, ynu, yse, yth))) : fw_Y50 post (q + 1) 0 (nI n) (yit, nI n, yfd, yls, ymd, ysa, ytk, ydp, yps, ybt, yst, yus, ynx, yra, yrd, yks, yas, ybs, yk, yf, ys, yin, yli, you, yva, yop, ynu, yse, yth) :=
  br_t (Int32.le_refl _) (br_t rfl H)
theorem st_14 {n B i m p b t k c : Nat} {s : List (Nat × Nat)} (R : (fw_RF n B i m p b t k c s xit xrd xil xml wr bby sm xk xf xs wh aa bb par ri rb rv inp mad sav yit yfd ymd yrd yks yas ybs yk yf ys yin you yop ynu)) (hi : i = n) (XI : ∀ (post : SX → Prop) (q : Nat), (wpX_item (fw_X66 post q) (xit, xln, xrd, xop, xil, nI c, xml, wr, nI i, nI p, nI (fw_LM yk B s), bby, nI b, sm, nI t, nI k, nI (fw_RK yk s), beg, (-1), plc, rch, xk, xf, xs, wh, aa, bb, par, ri, rb, rv, oi, os, ot, inp, lst, mad, vr, sav)) → fw_X66 post (q + 1) (xit, xln, xrd, xop, xil, nI c, xml, wr, nI i, nI p, nI (fw_LM yk B s), bby, nI b, sm, nI t, nI k, nI (fw_RK yk s), beg, (-1), plc, rch, xk, xf, xs, wh, aa, bb, par, ri, rb, rv, oi, os, ot, inp, lst, mad, vr, sav)) : fw_ST wr i m (xit, xln, xrd, xop, xil, nI c, xml, wr, nI i, nI p, nI (fw_LM yk B s), bby, nI b, sm, nI t, nI k, nI (fw_RK yk s), beg, (-1), plc, rch, xk, xf, xs, wh, aa, bb, par, ri, rb, rv, oi, os, ot, inp, lst, mad, vr, sav) (yit, nI n, yfd, nI c, ymd, ysa, ytk, nI s.length, nI p, nI b, nI t, nI k, ynx, yra, yrd, yks, yas, ybs, yk, yf, ys, yin, lst, you, vr, yop, ynu, yse, yth) := by
  subst hi
  have R' := R
  obtain ⟨T, F, M, D, S, _, ht, hkc, hc, hp, em⟩ := R'
  have hn := F.1
  have hB' := M.1
  have ew := F.2.2.1
  rw [F.2.2.2.1.2.2.2] at S
  cases s with
  | cons a s => obtain ⟨x, v⟩ := a; exact S.elim
  | nil =>
    have hwr : wr = 0 ∨ wr = 1 := by
      rcases M.2 with ⟨h, _⟩ | ⟨h, _⟩
      · exact Or.inl h
      · exact Or.inr h
    have eL : fw_LM yk B [] = B := rfl
    rw [eL] at hp
    have h2m : 2 ≤ m := by rw [em]; unfold fw_ms; omega
    rcases jj_close (xit := xit) (xln := xln) (xrd := xrd) (xop := xop) (xil := xil) (cnt := nI c) (xml := xml) (wr := wr) (pc := nI i) (lim := nI B) (bby := bby) (sm := sm) (st := nI t) (tkn := nI k) (dep := nI 0) (beg := nI p) (oc := (-1)) (plc := plc) (rch := rch) (xk := xk) (xf := xf) (xs := xs) (wh := wh) (aa := aa) (bb := bb) (par := par) (ri := ri) (rb := rb) (rv := rv) (oi := oi) (os := os) (ot := ot) (inp := inp) (lst := lst) (mad := mad) (vr := vr) (sav := sav) (yit := yit) (ysz := nI i) (yfd := yfd) (yls := nI c) (ymd := ymd) (ysa := ysa) (ytk := ytk) (ydp := nI 0) (yst := nI t) (yus := nI k) (ynx := ynx) (yra := nI p) (yrd := yrd) (yks := yks) (yas := yas) (ybs := ybs) (yk := yk) (yf := yf) (ys := ys) (yin := yin) (yli := lst) (you := you) (yva := vr) (yop := yop) (ynu := ynu) (yse := yse) (yth := yth) D M with ⟨sm', mad', D', hX, hY⟩ | ⟨rfl, hX, hY⟩
    · by_cases g : (wr = 0 → p = B) ∧ (wr = 1 → k = c)
      · refine Or.inr ⟨0, (xit, xln, xrd, xop, xil, nI c, xml, wr, nI i, nI p, nI B, 0, nI 0, sm', nI t, nI k, nI 0, nI p, 0, (-1), nI p, xk, xf, xs, wh, aa, bb, par, ri, rb, rv, oi, os, ot, inp, lst, mad', vr, sav), (yit, nI i, yfd, nI c, ymd, (-1), nI p, nI 0, nI p, nI 0, nI t, nI k, ynx, nI p, yrd, yks, yas, ybs, yk, yf, ys, yin, lst, you, vr, yop, ynu, yse, yth), 2, h2m, ?_, fun post q H => XI post (q + 1) (xi_14 ew (by omega) (hX _ (x143_ctl (Or.inr (Or.inr (Or.inr (Or.inr (Or.inr (Or.inr (Or.inr (Or.inr rfl)))))))) (xc_14 (by omega) (by omega) hB' hkc hc hwr (fun _ _ => br_t (by decide) H) (fun z => absurd g z))))), fun post q H => y50_end (q := q + 1) hn (hY _ (br_t rfl ?_))⟩
        · refine ⟨i, c, T, F, D'.2.2.2.1, hc, rfl, rfl, rfl, rfl, rfl, rfl, rfl, rfl, rfl, ?_⟩
          obtain ⟨d1, d2, d3, d4, ⟨w, e1, e2, e3⟩ | ⟨w, e1, e2, e3⟩⟩ := D'
          · exact Or.inl ⟨w, e3⟩
          · exact Or.inr ⟨w, p, 0, rfl, rfl, rfl, rfl, d2, d1, d3, e3⟩
        · rcases M.2 with ⟨rfl, rfl, rfl⟩ | ⟨rfl, rfl, _⟩
          · obtain rfl := g.1 rfl
            exact br_f (by decide) (br_t (Int32.le_refl _) (br_t rfl H))
          · obtain rfl := g.2 rfl
            exact br_t rfl (br_t (Int32.le_refl _) (br_t rfl H))
      · refine Or.inr ⟨7, (xit, xln, xrd, xop, xil, nI c, xml, wr, nI i, nI p, nI B, 0, nI 0, sm', nI t, nI k, nI 0, nI p, 7, nI i, nI p, xk, xf, xs, wh, aa, bb, par, ri, rb, rv, oi, os, ot, inp, lst, mad', vr, sav), (yit, nI i, yfd, nI c, ymd, nI i, nI p, nI 0, nI p, nI 0, nI t, nI k, ynx, nI p, yrd, yks, yas, ybs, yk, yf, ys, yin, lst, you, vr, yop, ynu, yse, yth), 2, h2m, ?_, fun post q H => XI post (q + 1) (xi_14 ew (by omega) (hX _ (x143_ctl (Or.inr (Or.inr (Or.inr (Or.inr (Or.inr (Or.inr (Or.inr (Or.inr rfl)))))))) (xc_14 (by omega) (by omega) hB' hkc hc hwr (fun a b => absurd ⟨a, b⟩ g) (fun _ => br_t (by decide) H))))), fun post q H => y50_end (q := q + 1) hn (hY _ (br_t rfl ?_))⟩
        · refine ⟨i, c, T, F, D'.2.2.2.1, hc, rfl, rfl, rfl, rfl, rfl, rfl, rfl, rfl, rfl, ?_⟩
          obtain ⟨d1, d2, d3, d4, ⟨w, e1, e2, e3⟩ | ⟨w, e1, e2, e3⟩⟩ := D'
          · exact Or.inl ⟨w, e3⟩
          · exact Or.inr ⟨w, p, 0, rfl, rfl, rfl, rfl, d2, d1, d3, e3⟩
        · rcases M.2 with ⟨rfl, rfl, rfl⟩ | ⟨rfl, rfl, _⟩
          · have : p < B := by
              rcases Nat.lt_or_ge p B with h | h
              · exact h
              · exact absurd ⟨fun _ => by omega, fun z => absurd z (by decide)⟩ g
            exact br_f (by decide) (br_f (nI_ge this (by omega)) (br_f (by decide) H))
          · have : k < c := by
              rcases Nat.lt_or_ge k c with h | h
              · exact h
              · exact absurd ⟨fun z => absurd z (by decide), fun _ => by omega⟩ g
            exact br_t rfl (br_f (nI_ge this (by omega)) (br_f (by decide) H))
    · refine Or.inr ⟨6, (xit, xln, xrd, xop, xil, nI c, xml, 0, nI i, nI p, nI B, 0, 0, sm, nI t, nI k, nI 0, nI p, 6, nI i, nI p, xk, xf, xs, wh, aa, bb, par, ri, rb, rv, oi, os, ot, inp, lst, mad, vr, sav), (yit, nI i, yfd, nI c, ymd, nI i, nI p, nI 0, nI p, nI b, nI t, nI k, ynx, nI p, yrd, yks, yas, ybs, yk, yf, ys, yin, lst, you, vr, yop, ynu, yse, yth), 2, h2m, ?_, fun post q H => XI post (q + 1) (xi_14 ew (by omega) (hX _ (br_f (by decide) (br_t (by decide) H)))), fun post q H => y50_end (q := q + 1) hn (hY _ (br_f (by decide) (br_f (by decide) H)))⟩
      refine ⟨i, c, T, F, D.2.2.2.1, hc, rfl, rfl, rfl, rfl, rfl, rfl, rfl, rfl, rfl, ?_⟩
      obtain ⟨d1, d2, d3, d4, ⟨w, e1, e2, e3⟩ | ⟨w, _⟩⟩ := D
      · exact Or.inl ⟨w, e3⟩
      · exact absurd w (by decide)
/-! one plain item for which there is room -/
theorem yf_cl {n B i m p t k c : Nat} {s : List (Nat × Nat)} (R : (fw_RF n B i m p 0 t k c s xit xrd xil xml wr bby sm xk xf xs wh aa bb par ri rb rv inp mad sav yit yfd ymd yrd yks yas ybs yk yf ys yin you yop ynu)) (hi : i < n) (ht : t < 400) {kk : Int32} (hk : kk = 0 ∨ kk = 3) (ek : yk i = kk) (hc : kk = 0 → wr = 0 → c < 40) (post : Int32 → SY → Prop) (H : fw_Y113 post (nI i) kk (yit, nI n, yfd, nI c, ymd, ysa, ytk, nI s.length, nI p, nI 0, nI (t + 1), nI k, nI (i + 1), nI p, yrd, yks, yas, ybs, yk, yf, ys, yin, lst, you, vr, yop, ynu, yse, yth)) : (wpY_item post (yit, nI n, yfd, nI c, ymd, ysa, ytk, nI s.length, nI p, nI 0, nI t, nI k, nI (i + 1), nI p, yrd, yks, yas, ybs, yk, yf, ys, yin, lst, you, vr, yop, ynu, yse, yth) (nI i)) := by
  have hn := R.2.1.1
  have M := R.2.2.1
  refine yi_cl (kk := kk) ?_ ek (by omega) ht ?_ ?_
  · rcases hk with h | h
    · exact Or.inl h
    · exact Or.inr (Or.inr (Or.inl h))
  · intro h z
    rcases M.2 with ⟨e, _⟩ | ⟨_, e, _⟩
    · refine hc ?_ e
      rcases hk with g | g
      · exact g
      · rw [g] at h; exact absurd h (by decide)
    · exact absurd e z
  · rcases M.2 with ⟨_, rfl, _⟩ | ⟨_, rfl, _⟩
    · exact yy_close_r0 (br_t rfl H)
    · exact yy_close_w (br_t rfl H)
theorem jf_item {n B i m p t k c : Nat} {s : List (Nat × Nat)} (R : (fw_RF n B i m p 0 t k c s xit xrd xil xml wr bby sm xk xf xs wh aa bb par ri rb rv inp mad sav yit yfd ymd yrd yks yas ybs yk yf ys yin you yop ynu)) (hi : i < n) (ht : t < 400) {a v : Nat} (hk : (yk i = 0 ∧ yf i = nI a ∧ 1 ≤ a ∧ a ≤ 4 ∧ v = 1) ∨ (yk i = 3 ∧ a = 1 ∧ v = 0)) (hpa : p + a ≤ fw_LM yk B s) (hc0 : wr = 0 → c + v ≤ 40) (hc1 : wr = 1 → k + v ≤ c) :
    (∃ (k' c' : Nat) (sm' : Int32) (mad' lst' vr' you' : Nat → Int32), (fw_DP wr xml ymd (p + a) 0 bby sm' inp mad' yin you') ∧ k' ≤ c' ∧ c' ≤ 40 ∧ (wr = 0 → c' = c + v) ∧ (wr = 1 → k' = k + v ∧ c' = c) ∧
      (∀ post : SX → Prop, post (xit, xln, xrd, xop, xil, nI c', xml, wr, nI i, nI (p + a), nI (fw_LM yk B s), bby, nI 0, sm', nI (t + 1), nI k', nI (fw_RK yk s), nI p, (-1), plc, rch, xk, xf, xs, wh, aa, bb, par, ri, rb, rv, oi, os, ot, inp, lst', mad', vr', sav) → (yk i = 0 → (wpX_number post (xit, xln, xrd, xop, xil, nI c, xml, wr, nI i, nI p, nI (fw_LM yk B s), bby, nI 0, sm, nI (t + 1), nI k, nI (fw_RK yk s), nI p, (-1), plc, rch, xk, xf, xs, wh, aa, bb, par, ri, rb, rv, oi, os, ot, inp, lst, mad, vr, sav) (aa i) (bb i))) ∧ (yk i = 3 → (wpX_fixed post (xit, xln, xrd, xop, xil, nI c, xml, wr, nI i, nI p, nI (fw_LM yk B s), bby, nI 0, sm, nI (t + 1), nI k, nI (fw_RK yk s), nI p, (-1), plc, rch, xk, xf, xs, wh, aa, bb, par, ri, rb, rv, oi, os, ot, inp, lst, mad, vr, sav) (aa i)))) ∧
      (∀ post : Int32 → SY → Prop, post 0 (yit, nI n, yfd, nI c', ymd, ysa, ytk, nI s.length, nI (p + a), nI 0, nI (t + 1), nI k', nI (i + 1), nI p, yrd, yks, yas, ybs, yk, yf, ys, yin, lst', you', vr', yop, ynu, yse, yth) → (wpY_item post (yit, nI n, yfd, nI c, ymd, ysa, ytk, nI s.length, nI p, nI 0, nI t, nI k, nI (i + 1), nI p, yrd, yks, yas, ybs, yk, yf, ys, yin, lst, you, vr, yop, ynu, yse, yth) (nI i)))) ∨
    (∃ (h pos' sm' yps' : Int32), ¬ h = 0 ∧ 0 ≤ h ∧ (wr = 1 → pos' = nI p ∧ yps' = nI p) ∧
      (∀ post : SX → Prop, post (xit, xln, xrd, xop, xil, nI c, xml, wr, nI i, pos', nI (fw_LM yk B s), bby, nI 0, sm', nI (t + 1), nI k, nI (fw_RK yk s), nI p, h, nI i, nI p, xk, xf, xs, wh, aa, bb, par, ri, rb, rv, oi, os, ot, inp, lst, mad, vr, sav) → (yk i = 0 → (wpX_number post (xit, xln, xrd, xop, xil, nI c, xml, wr, nI i, nI p, nI (fw_LM yk B s), bby, nI 0, sm, nI (t + 1), nI k, nI (fw_RK yk s), nI p, (-1), plc, rch, xk, xf, xs, wh, aa, bb, par, ri, rb, rv, oi, os, ot, inp, lst, mad, vr, sav) (aa i) (bb i))) ∧ (yk i = 3 → (wpX_fixed post (xit, xln, xrd, xop, xil, nI c, xml, wr, nI i, nI p, nI (fw_LM yk B s), bby, nI 0, sm, nI (t + 1), nI k, nI (fw_RK yk s), nI p, (-1), plc, rch, xk, xf, xs, wh, aa, bb, par, ri, rb, rv, oi, os, ot, inp, lst, mad, vr, sav) (aa i)))) ∧
      (∀ post : Int32 → SY → Prop, post h (yit, nI n, yfd, nI c, ymd, ysa, ytk, nI s.length, yps', nI 0, nI (t + 1), nI k, nI (i + 1), nI p, yrd, yks, yas, ybs, yk, yf, ys, yin, lst, you, vr, yop, ynu, yse, yth) → (wpY_item post (yit, nI n, yfd, nI c, ymd, ysa, ytk, nI s.length, nI p, nI 0, nI t, nI k, nI (i + 1), nI p, yrd, yks, yas, ybs, yk, yf, ys, yin, lst, you, vr, yop, ynu, yse, yth) (nI i)))) := by
  have hl := fw_len R
  have R' := R
  obtain ⟨_, F, M, D, S, _, _, hkc, hc, hp, _⟩ := R'
  have hn := F.1
  have hB := fw_LM_le S
  have hB' := M.1
  obtain ⟨_, ea, eb, _, _, _, fv3, _⟩ := F.2.1 i hi
  rcases hk with ⟨ek, ef, a1, a4, rfl⟩ | ⟨ek, rfl, rfl⟩
  · have n3 : ¬ yk i = 3 := by rw [ek]; decide
    rcases M.2 with ⟨rfl, rfl, eB⟩ | ⟨rfl, rfl, eB⟩
    · have hc2 := hc0 rfl
      obtain ⟨_, _, es', hin⟩ := DP_r D
      subst es'
      refine Or.inl ⟨k, c + 1, fw_sum yin (p + a), mad, upd lst c (fw_num yin p a (ys i)), upd vr (ys i &&& 7).toNatClampNeg (fw_num yin p a (ys i)), you, DP_mk D (by omega) (by omega) (fun z => absurd z (by omega)), by omega, by omega, fun _ => rfl, fun z => absurd z (by decide), fun post H => ⟨fun _ => ?_, fun z => absurd z n3⟩, fun post H => yf_cl R hi ht (Or.inl rfl) ek (fun _ _ => by omega) post (y113_take (Or.inl rfl) (by omega) ?_)⟩
      · rw [ea, ef, eb]
        exact xx_num_r hin (by omega) a4 hp (by omega) (fun z => H) (fun z => absurd z (by omega))
      · exact yy_num_r M S hl hp (by omega) a4 ef (by omega) (fun z => H) (fun z => absurd z (by omega))
    · have hc2 := hc1 rfl
      by_cases ok : fw_ok (lst k) a (ys i)
      · refine Or.inl ⟨k + 1, c, _, _, lst, upd vr (ys i &&& 7).toNatClampNeg (lst k), _, fw_DP_em (bby' := bby) D (g := fw_nb (lst k) (nI a) (fw_lo (ys i))) (g' := fun j => fw_nb (lst k) (nI a) (fw_lo (ys i)) j &&& 255) (k := a) (by omega) (fun _ => rfl), by omega, hc, fun z => absurd z (by decide), fun _ => ⟨rfl, rfl⟩, fun post H => ⟨fun _ => ?_, fun z => absurd z n3⟩, fun post H => yf_cl R hi ht (Or.inl rfl) ek (fun _ z => absurd z (by decide)) post (y113_give (Or.inl rfl) (by omega) ?_)⟩
        · rw [ea, ef, eb]
          exact xx_num_w (by omega) a4 hp (by omega) (fun z => absurd ok z) (fun _ z => absurd z (by omega)) (fun _ _ => H)
        · exact yy_num_w M S hl hp (by omega) a1 a4 ef (by omega) hc (fun z => absurd ok z) (fun _ z => absurd z (by omega)) (fun _ _ => H)
      · refine Or.inr ⟨4, nI p, sm, nI p, by decide, by decide, fun _ => ⟨rfl, rfl⟩, fun post H => ⟨fun _ => ?_, fun z => absurd z n3⟩, fun post H => yf_cl R hi ht (Or.inl rfl) ek (fun _ z => absurd z (by decide)) post (y113_give (Or.inl rfl) (by omega) ?_)⟩
        · rw [ea, ef, eb]
          exact xx_num_w (by omega) a4 hp (by omega) (fun _ => H) (fun z => absurd z ok) (fun z => absurd z ok)
        · exact yy_num_w M S hl hp (by omega) a1 a4 ef (by omega) hc (fun _ => H) (fun z => absurd z ok) (fun z => absurd z ok)
  · have n0 : ¬ yk i = 0 := by rw [ek]; decide
    obtain ⟨q, q255, ef⟩ := fv3 ek
    have hv2 : aa i = aa i &&& 255 := by rw [ea, ef, pk_andN (by omega) 8 (by decide), Nat.mod_eq_of_lt (by omega)]
    have hY : ∀ post : Int32 → SY → Prop, (wpY_exact (fw_Yid post) (yit, nI n, yfd, nI c, ymd, ysa, ytk, nI s.length, nI p, nI 0, nI (t + 1), nI k, nI (i + 1), nI p, yrd, yks, yas, ybs, yk, yf, ys, yin, lst, you, vr, yop, ynu, yse, yth) (aa i) 5) → (wpY_item post (yit, nI n, yfd, nI c, ymd, ysa, ytk, nI s.length, nI p, nI 0, nI t, nI k, nI (i + 1), nI p, yrd, yks, yas, ybs, yk, yf, ys, yin, lst, you, vr, yop, ynu, yse, yth) (nI i)) := by
      intro post H
      refine yf_cl R hi ht (Or.inr rfl) ek (fun z => absurd z (by decide)) post (y113_plain (Or.inl rfl) (by omega) (yp_3 M S hl hp (fun _ => ?_) (fun z => absurd z (by omega))))
      rw [← ea]; exact H
    rcases M.2 with ⟨rfl, rfl, eB⟩ | ⟨rfl, rfl, eB⟩
    · obtain ⟨_, _, es', hin⟩ := DP_r D
      subst es'
      by_cases z : yin p = aa i
      · refine Or.inl ⟨k, c, fw_sum yin (p + 1), mad, lst, vr, you, DP_mk D (by omega) (by omega) (fun z => absurd z (by omega)), hkc, hc, fun _ => rfl, fun z => absurd z (by decide), fun post H => ⟨fun w => absurd w n0, fun _ => xx_fix_r (by omega) (fun _ => ?_) (fun q => absurd (by rw [← hin]; exact z) q)⟩, fun post H => hY post (yy_exact_r (by omega) (fun _ => H) (fun q => absurd z q))⟩
        rw [← hin]; exact H
      · exact Or.inr ⟨5, nI (p + 1), fw_sum yin p + (inp p &&& 255), nI p, by decide, by decide, fun z => absurd z (by decide), fun post H => ⟨fun w => absurd w n0, fun _ => xx_fix_r (by omega) (fun q => absurd (by rw [hin]; exact q) z) (fun _ => H)⟩, fun post H => hY post (yy_exact_r (by omega) (fun q => absurd q z) (fun _ => H))⟩
    · exact Or.inl ⟨k, c, _, _, lst, vr, _, fw_DP_em (bby' := bby) D (g := fun _ => aa i) (g' := fun _ => aa i) (k := 1) (by omega) (fun _ => hv2), hkc, hc, fun z => absurd z (by decide), fun _ => ⟨rfl, rfl⟩, fun post H => ⟨fun w => absurd w n0, fun _ => xx_fix_w (by omega) H⟩, fun post H => hY post (yy_exact_w (by omega) H)⟩
end
section
/-! a run of plain items; the whole loop -/
def fw_X17 (post : SX → Prop) (x1 : Int32) (n : Nat) (x2 : Int32) (u : SX) : Prop := match u with
  | (xit, xln, xrd, xop, xil, cnt, xml, wr, pc, pos, lim, bby, bl, sm, st, tkn, dep, beg, oc, plc, rch, xk, xf, xs, wh, aa, bb, par, ri, rb, rv, oi, os, ot, inp, lst, mad, vr, sav) => (wX_fastRun_17 post x1 n x2 xit xln xrd xop xil cnt xml wr pc pos lim bby bl sm st tkn dep beg oc plc rch xk xf xs wh aa bb par ri rb rv oi os ot inp lst mad vr sav)
def fw_X89 (post : SX → Prop) (x1 : Int32) (n : Nat) (u : SX) : Prop := match u with
  | (xit, xln, xrd, xop, xil, cnt, xml, wr, pc, pos, lim, bby, bl, sm, st, tkn, dep, beg, oc, plc, rch, xk, xf, xs, wh, aa, bb, par, ri, rb, rv, oi, os, ot, inp, lst, mad, vr, sav) => (wX_fastRun_89 post (wX_fastRun_17 post x1 n) x1 xit xln xrd xop xil cnt xml wr pc pos lim bby bl sm st tkn dep beg oc plc rch xk xf xs wh aa bb par ri rb rv oi os ot inp lst mad vr sav)
def fw_FR (g : Int32) (z r i m : Nat) (u : SX) (v : SY) : Prop :=
  (∃ (i' m' c : Nat) (u' : SX) (v' : SY), 1 ≤ c ∧ m' + c ≤ m ∧ fw_RUN g i' m' u' v' ∧ (∀ post q, r < q → post u' → fw_X17 post (nI z) q 1 u) ∧ (∀ post q, fw_Y50 post q 0 (nI i') v' → fw_Y50 post (q + c) 0 (nI i) v)) ∨
  (∃ (h : Int32) (u' : SX) (v' : SY) (f : Nat), f ≤ m ∧ fw_FIN g h u' v' ∧ (∀ post q, post u' → fw_X66 post (q + 1) u') ∧ (∀ post q, r < q → post u' → fw_X17 post (nI z) q 1 u) ∧ (∀ post q, post h v' → fw_Y50 post (q + f) 0 (nI i) v))
variable {xit xln xrd xop xil cnt xml wr pc pos lim bby bl sm st tkn dep beg oc plc rch : Int32} {xk xf xs wh aa bb par ri rb rv oi os ot inp lst mad vr sav : Nat → Int32} {yit ysz yfd yls ymd ysa ytk ydp yps ybt yst yus ynx yra yrd : Int32} {yks yas ybs yk yf ys yin yli you yva yop ynu yse yth : Nat → Int32}
theorem x17_body {post : SX → Prop} {z q i t : Nat} (hi : i < 41) (hw : wh i = 0 ∨ wh i = 3) (H0 : wh i = 0 → (wpX_number (fw_X89 post (nI z) q) (xit, xln, xrd, xop, xil, cnt, xml, wr, nI i, pos, lim, bby, bl, sm, nI (t + 1), tkn, dep, pos, oc, plc, rch, xk, xf, xs, wh, aa, bb, par, ri, rb, rv, oi, os, ot, inp, lst, mad, vr, sav) (aa i) (bb i))) (H3 : wh i = 3 → (wpX_fixed (fw_X89 post (nI z) q) (xit, xln, xrd, xop, xil, cnt, xml, wr, nI i, pos, lim, bby, bl, sm, nI (t + 1), tkn, dep, pos, oc, plc, rch, xk, xf, xs, wh, aa, bb, par, ri, rb, rv, oi, os, ot, inp, lst, mad, vr, sav) (aa i))) : fw_X17 post (nI z) (q + 1) 1 (xit, xln, xrd, xop, xil, cnt, xml, wr, nI i, pos, lim, bby, bl, sm, nI t, tkn, dep, beg, oc, plc, rch, xk, xf, xs, wh, aa, bb, par, ri, rb, rv, oi, os, ot, inp, lst, mad, vr, sav) := by
  have hpc : vp_in (nI i) 41 := vp_in_nI hi (by decide)
  have ci : (nI i).toNatClampNeg = i := nI_clamp (by omega)
  refine br_f (by decide) (nm_r (nI_1 t) (And.intro hpc ?_))
  rw [ci]
  refine ⟨fun z => And.intro hpc (And.intro hpc (H0 z)), fun z => And.intro hpc (H3 ?_)⟩
  rcases hw with h | h
  · exact absurd h z
  · exact h
theorem x89_fail {post : SX → Prop} {z q : Nat} {h : Int32} (h1 : 0 ≤ h) (H : post (xit, xln, xrd, xop, xil, cnt, xml, wr, pc, pos, lim, bby, bl, sm, st, tkn, dep, beg, h, plc, rch, xk, xf, xs, wh, aa, bb, par, ri, rb, rv, oi, os, ot, inp, lst, mad, vr, sav)) : fw_X89 post (nI z) (q + 1) (xit, xln, xrd, xop, xil, cnt, xml, wr, pc, pos, lim, bby, bl, sm, st, tkn, dep, beg, h, plc, rch, xk, xf, xs, wh, aa, bb, par, ri, rb, rv, oi, os, ot, inp, lst, mad, vr, sav) := br_t h1 (br_t h1 (br_t rfl H))
theorem x89_end {post : SX → Prop} {z q i : Nat} (hz : z = i + 1) (H : post (xit, xln, xrd, xop, xil, cnt, xml, wr, nI (i + 1), pos, lim, bby, bl, sm, st, tkn, dep, beg, (-1), plc, rch, xk, xf, xs, wh, aa, bb, par, ri, rb, rv, oi, os, ot, inp, lst, mad, vr, sav)) : fw_X89 post (nI z) (q + 1) (xit, xln, xrd, xop, xil, cnt, xml, wr, nI i, pos, lim, bby, bl, sm, st, tkn, dep, beg, (-1), plc, rch, xk, xf, xs, wh, aa, bb, par, ri, rb, rv, oi, os, ot, inp, lst, mad, vr, sav) := by
  subst hz
  exact br_f (by decide) (nm_r (nI_1 i) (br_f (by decide) (br_t (Int32.le_refl _) (br_t rfl H))))
theorem x89_on {post : SX → Prop} {z q i : Nat} (hz : i + 1 < z) (hz40 : z ≤ 40) (H : fw_X17 post (nI z) q 1 (xit, xln, xrd, xop, xil, cnt, xml, wr, nI (i + 1), pos, lim, bby, bl, sm, st, tkn, dep, beg, (-1), plc, rch, xk, xf, xs, wh, aa, bb, par, ri, rb, rv, oi, os, ot, inp, lst, mad, vr, sav)) : fw_X89 post (nI z) q (xit, xln, xrd, xop, xil, cnt, xml, wr, nI i, pos, lim, bby, bl, sm, st, tkn, dep, beg, (-1), plc, rch, xk, xf, xs, wh, aa, bb, par, ri, rb, rv, oi, os, ot, inp, lst, mad, vr, sav) :=
  br_f (by decide) (nm_r (nI_1 i) (br_f (by decide) (br_f (nI_ge hz (by omega)) H)))
theorem fw_RO_s {K A : Nat → Int32} {r i e v : Nat} (h : fw_RO K A (r + 1) i e v) : ∃ a w e' v' : Nat, e = a + e' ∧ v = v' + w ∧ ((K i = 0 ∧ A i = nI a ∧ 1 ≤ a ∧ a ≤ 4 ∧ w = 1) ∨ (K i = 3 ∧ a = 1 ∧ w = 0)) ∧ fw_RO K A r (i + 1) e' v' := by
  rcases h with ⟨k, a, e', v', h1, h2, h3, h4, h5, h6⟩ | ⟨k, e', h1, h2⟩
  · exact ⟨a, 1, e', v', h4, h5, Or.inl ⟨k, h1, h2, h3, rfl⟩, h6⟩
  · exact ⟨1, 0, e', v, by omega, by omega, Or.inr ⟨k, rfl, rfl⟩, h2⟩
theorem jf_run {n B z : Nat} {s : List (Nat × Nat)} : ∀ (r i m p t k c e v : Nat) (sm beg ynx yra : Int32) (mad lst vr you : Nat → Int32), (fw_RF n B i m p 0 t k c s xit xrd xil xml wr bby sm xk xf xs wh aa bb par ri rb rv inp mad sav yit yfd ymd yrd yks yas ybs yk yf ys yin you yop ynu) → fw_RO yk yf (r + 1) i e v → i + (r + 1) = z → z ≤ n → t + (r + 1) ≤ 400 → p + e ≤ fw_LM yk B s → (wr = 0 → c + v ≤ 40) → (wr = 1 → k + v ≤ c) → fw_FR wr z (r + 1) i m (xit, xln, xrd, xop, xil, nI c, xml, wr, nI i, nI p, nI (fw_LM yk B s), bby, nI 0, sm, nI t, nI k, nI (fw_RK yk s), beg, (-1), plc, rch, xk, xf, xs, wh, aa, bb, par, ri, rb, rv, oi, os, ot, inp, lst, mad, vr, sav) (yit, nI n, yfd, nI c, ymd, ysa, ytk, nI s.length, nI p, nI 0, nI t, nI k, ynx, yra, yrd, yks, yas, ybs, yk, yf, ys, yin, lst, you, vr, yop, ynu, yse, yth) := by
  intro r
  induction r with
  | zero =>
    intro i m p t k c e v sm beg ynx yra mad lst vr you R RO hz hzn ht hpe hc0 hc1
    have R' := R
    obtain ⟨T, F, M, D, S, _, _, hkc, hc, hp, em⟩ := R'
    have hn := F.1
    obtain ⟨a, w, e', v', rfl, rfl, hk, RO'⟩ := fw_RO_s RO
    have ew := (F.2.1 i (by omega)).1
    have hw : wh i = 0 ∨ wh i = 3 := by
      rw [ew]
      rcases hk with ⟨h, _⟩ | ⟨h, _⟩
      · exact Or.inl h
      · exact Or.inr h
    have es : fw_st yk (i + 1) = fw_st yk i := by
      rcases hk with ⟨h, _⟩ | ⟨h, _⟩
      · exact fw_plain (K := yk) h (by decide) (by decide) (by decide)
      · exact fw_plain (K := yk) h (by decide) (by decide) (by decide)
    rcases jf_item R (ysa := ysa) (ytk := ytk) (yse := yse) (yth := yth) (xln := xln) (xop := xop) (plc := plc) (rch := rch) (oi := oi) (os := os) (ot := ot) (lst := lst) (vr := vr) (by omega) (by omega) hk (by omega) (fun z => by have := hc0 z; omega) (fun z => by have := hc1 z; omega) with ⟨k', c', sm', mad', lst', vr', you', D', g1, g2, g3, g4, jX, jY⟩ | ⟨h, pos', sm', yps', h0, h1, hW, jX, jY⟩
    · refine Or.inl ⟨i + 1, fw_ms n (i + 1) (t + 1) yk s, 1, (xit, xln, xrd, xop, xil, nI c', xml, wr, nI (i + 1), nI (p + a), nI (fw_LM yk B s), bby, nI 0, sm', nI (t + 1), nI k', nI (fw_RK yk s), nI p, (-1), plc, rch, xk, xf, xs, wh, aa, bb, par, ri, rb, rv, oi, os, ot, inp, lst', mad', vr', sav), (yit, nI n, yfd, nI c', ymd, ysa, ytk, nI s.length, nI (p + a), nI 0, nI (t + 1), nI k', nI (i + 1), nI p, yrd, yks, yas, ybs, yk, yf, ys, yin, lst', you', vr', yop, ynu, yse, yth), by omega, by rw [em]; exact fw_ms1 (by omega) (by omega), ?_, fun post q hq H => ?_, y50_ok (by omega) hn jY⟩
      · exact ⟨n, B, p + a, 0, t + 1, k', c', s, ⟨T, F, M, D', by rw [es]; exact S, by omega, by omega, g1, g2, by omega, rfl⟩, ⟨rfl, rfl, rfl, rfl, rfl, rfl, rfl, rfl, rfl, rfl⟩, ⟨rfl, rfl, rfl, rfl, rfl, rfl, rfl, rfl, rfl⟩⟩
      · obtain ⟨q, rfl⟩ : ∃ r, q = r + 1 + 1 := ⟨q - 2, by omega⟩
        have B0 := jX (fw_X89 post (nI z) (q + 1)) (x89_end (by omega) H)
        exact x17_body (by omega) hw (fun z => B0.1 (by rw [← ew]; exact z)) (fun z => B0.2 (by rw [← ew]; exact z))
    · refine Or.inr ⟨h, (xit, xln, xrd, xop, xil, nI c, xml, wr, nI i, pos', nI (fw_LM yk B s), bby, nI 0, sm', nI (t + 1), nI k, nI (fw_RK yk s), nI p, h, nI i, nI p, xk, xf, xs, wh, aa, bb, par, ri, rb, rv, oi, os, ot, inp, lst, mad, vr, sav), (yit, nI n, yfd, nI c, ymd, nI i, nI p, nI s.length, yps', nI 0, nI (t + 1), nI k, nI (i + 1), nI p, yrd, yks, yas, ybs, yk, yf, ys, yin, lst, you, vr, yop, ynu, yse, yth), 2, by rw [em]; unfold fw_ms; omega, ?_, fun post q H => br_t h1 H, fun post q hq H => ?_, y50_fail (by omega) hn h0 jY⟩
      · refine ⟨n, c, T, F, D.2.2.2.1, hc, rfl, rfl, rfl, rfl, rfl, rfl, rfl, rfl, rfl, ?_⟩
        obtain ⟨d1, d2, d3, d4, ⟨w, e1, e2, e3⟩ | ⟨w, e1, e2, e3⟩⟩ := D
        · exact Or.inl ⟨w, e3⟩
        · exact Or.inr ⟨w, p, 0, (hW w).1, (hW w).2, rfl, rfl, d2, d1, d3, e3⟩
      · obtain ⟨q, rfl⟩ : ∃ r, q = r + 1 + 1 := ⟨q - 2, by omega⟩
        have B0 := jX (fw_X89 post (nI z) (q + 1)) (x89_fail h1 H)
        exact x17_body (by omega) hw (fun z => B0.1 (by rw [← ew]; exact z)) (fun z => B0.2 (by rw [← ew]; exact z))
  | succ r ih =>
    intro i m p t k c e v sm beg ynx yra mad lst vr you R RO hz hzn ht hpe hc0 hc1
    have R' := R
    obtain ⟨T, F, M, D, S, _, _, hkc, hc, hp, em⟩ := R'
    have hn := F.1
    obtain ⟨a, w, e', v', rfl, rfl, hk, RO'⟩ := fw_RO_s RO
    have ew := (F.2.1 i (by omega)).1
    have hw : wh i = 0 ∨ wh i = 3 := by
      rw [ew]
      rcases hk with ⟨h, _⟩ | ⟨h, _⟩
      · exact Or.inl h
      · exact Or.inr h
    have es : fw_st yk (i + 1) = fw_st yk i := by
      rcases hk with ⟨h, _⟩ | ⟨h, _⟩
      · exact fw_plain (K := yk) h (by decide) (by decide) (by decide)
      · exact fw_plain (K := yk) h (by decide) (by decide) (by decide)
    rcases jf_item R (ysa := ysa) (ytk := ytk) (yse := yse) (yth := yth) (xln := xln) (xop := xop) (plc := plc) (rch := rch) (oi := oi) (os := os) (ot := ot) (lst := lst) (vr := vr) (by omega) (by omega) hk (by omega) (fun z => by have := hc0 z; omega) (fun z => by have := hc1 z; omega) with ⟨k', c', sm', mad', lst', vr', you', D', g1, g2, g3, g4, jX, jY⟩ | ⟨h, pos', sm', yps', h0, h1, hW, jX, jY⟩
    · have hm : fw_ms n (i + 1) (t + 1) yk s + 1 ≤ m := by rw [em]; exact fw_ms1 (by omega) (by omega)
      have XX : ∀ (post : SX → Prop) (q : Nat), fw_X17 post (nI z) q 1 (xit, xln, xrd, xop, xil, nI c', xml, wr, nI (i + 1), nI (p + a), nI (fw_LM yk B s), bby, nI 0, sm', nI (t + 1), nI k', nI (fw_RK yk s), nI p, (-1), plc, rch, xk, xf, xs, wh, aa, bb, par, ri, rb, rv, oi, os, ot, inp, lst', mad', vr', sav) → fw_X17 post (nI z) (q + 1) 1 (xit, xln, xrd, xop, xil, nI c, xml, wr, nI i, nI p, nI (fw_LM yk B s), bby, nI 0, sm, nI t, nI k, nI (fw_RK yk s), beg, (-1), plc, rch, xk, xf, xs, wh, aa, bb, par, ri, rb, rv, oi, os, ot, inp, lst, mad, vr, sav) := by
        intro post q H
        have B0 := jX (fw_X89 post (nI z) q) (x89_on (by omega) (by omega) H)
        exact x17_body (by omega) hw (fun z => B0.1 (by rw [← ew]; exact z)) (fun z => B0.2 (by rw [← ew]; exact z))
      have YY := y50_ok (ynx := ynx) (yra := yra) (by omega) hn jY
      rcases ih (i + 1) (fw_ms n (i + 1) (t + 1) yk s) (p + a) (t + 1) k' c' e' v' sm' (nI p) (nI (i + 1)) (nI p) mad' lst' vr' you' ⟨T, F, M, D', by rw [es]; exact S, by omega, by omega, g1, g2, by omega, rfl⟩ RO' (by omega) hzn (by omega) (by omega) (fun z => by have := hc0 z; have := g3 z; omega) (fun z => by have := hc1 z; have := g4 z; omega) with ⟨i', m', c1, u', v', a1, a2, a3, a4, a5⟩ | ⟨h, u', v', f, a1, a2, a3, a4, a5⟩
      · refine Or.inl ⟨i', m', c1 + 1, u', v', by omega, by omega, a3, fun post q hq H => ?_, fun post q H => YY post (q + c1) (a5 post q H)⟩
        obtain ⟨q, rfl⟩ : ∃ r, q = r + 1 := ⟨q - 1, by omega⟩
        exact XX post q (a4 post q (by omega) H)
      · refine Or.inr ⟨h, u', v', f + 1, by omega, a2, a3, fun post q hq H => ?_, fun post q H => YY post (q + f) (a5 post q H)⟩
        obtain ⟨q, rfl⟩ : ∃ r, q = r + 1 := ⟨q - 1, by omega⟩
        exact XX post q (a4 post q (by omega) H)
    · refine Or.inr ⟨h, (xit, xln, xrd, xop, xil, nI c, xml, wr, nI i, pos', nI (fw_LM yk B s), bby, nI 0, sm', nI (t + 1), nI k, nI (fw_RK yk s), nI p, h, nI i, nI p, xk, xf, xs, wh, aa, bb, par, ri, rb, rv, oi, os, ot, inp, lst, mad, vr, sav), (yit, nI n, yfd, nI c, ymd, nI i, nI p, nI s.length, yps', nI 0, nI (t + 1), nI k, nI (i + 1), nI p, yrd, yks, yas, ybs, yk, yf, ys, yin, lst, you, vr, yop, ynu, yse, yth), 2, by rw [em]; unfold fw_ms; omega, ?_, fun post q H => br_t h1 H, fun post q hq H => ?_, y50_fail (by omega) hn h0 jY⟩
      · refine ⟨n, c, T, F, D.2.2.2.1, hc, rfl, rfl, rfl, rfl, rfl, rfl, rfl, rfl, rfl, ?_⟩
        obtain ⟨d1, d2, d3, d4, ⟨w, e1, e2, e3⟩ | ⟨w, e1, e2, e3⟩⟩ := D
        · exact Or.inl ⟨w, e3⟩
        · exact Or.inr ⟨w, p, 0, (hW w).1, (hW w).2, rfl, rfl, d2, d1, d3, e3⟩
      · obtain ⟨q, rfl⟩ : ∃ r, q = r + 1 + 1 := ⟨q - 2, by omega⟩
        have B0 := jX (fw_X89 post (nI z) (q + 1)) (x89_fail h1 H)
        exact x17_body (by omega) hw (fun z => B0.1 (by rw [← ew]; exact z)) (fun z => B0.2 (by rw [← ew]; exact z))
theorem fw_kinds {q : Nat} {k : Int32} (hq : q ≤ 13) (e : k = nI q) : k = 0 ∨ k = 1 ∨ k = 2 ∨ k = 3 ∨ k = 4 ∨ k = 5 ∨ k = 6 ∨ k = 7 ∨ k = 8 ∨ k = 9 ∨ k = 10 ∨ k = 11 ∨ k = 12 ∨ k = 13 := by
  subst e
  have : ∀ q, q < 14 → nI q = 0 ∨ nI q = 1 ∨ nI q = 2 ∨ nI q = 3 ∨ nI q = 4 ∨ nI q = 5 ∨ nI q = 6 ∨ nI q = 7 ∨ nI q = 8 ∨ nI q = 9 ∨ nI q = 10 ∨ nI q = 11 ∨ nI q = 12 ∨ nI q = 13 := by decide +kernel
  exact this q (by omega)
theorem st_all {n B i m p b t k c : Nat} {s : List (Nat × Nat)} (R : (fw_RF n B i m p b t k c s xit xrd xil xml wr bby sm xk xf xs wh aa bb par ri rb rv inp mad sav yit yfd ymd yrd yks yas ybs yk yf ys yin you yop ynu)) : fw_ST wr i m (xit, xln, xrd, xop, xil, nI c, xml, wr, nI i, nI p, nI (fw_LM yk B s), bby, nI b, sm, nI t, nI k, nI (fw_RK yk s), beg, (-1), plc, rch, xk, xf, xs, wh, aa, bb, par, ri, rb, rv, oi, os, ot, inp, lst, mad, vr, sav) (yit, nI n, yfd, nI c, ymd, ysa, ytk, nI s.length, nI p, nI b, nI t, nI k, ynx, yra, yrd, yks, yas, ybs, yk, yf, ys, yin, lst, you, vr, yop, ynu, yse, yth) := by
  rcases x66_d (xit := xit) (xln := xln) (xrd := xrd) (xop := xop) (xil := xil) (xml := xml) (wr := wr) (bby := bby) (sm := sm) (beg := beg) (plc := plc) (rch := rch) (xk := xk) (xf := xf) (xs := xs) (wh := wh) (aa := aa) (bb := bb) (par := par) (ri := ri) (rb := rb) (rv := rv) (oi := oi) (os := os) (ot := ot) (inp := inp) (lst := lst) (mad := mad) (vr := vr) (sav := sav) R with XI | ⟨rfl, r, e, v, er, h2, hr, RO, g1, g2, g3, g4, XF⟩
  · rcases Nat.lt_or_ge i n with hi | hi
    · obtain ⟨q, hq, eq⟩ := (R.2.1.2.1 i hi).2.2.2.1
      rcases fw_kinds hq eq with h | h | h | h | h | h | h | h | h | h | h | h | h | h
      · exact st_0 R hi XI h
      · exact st_1 R hi XI h
      · exact st_2 R hi XI h
      · exact st_3 R hi XI h
      · exact st_4 R hi XI h
      · exact st_5 R hi XI h
      · exact st_6 R hi XI h
      · exact st_7 R hi XI h
      · exact st_8 R hi XI h
      · exact st_var R hi XI (Or.inl rfl) h
      · exact st_var R hi XI (Or.inr (Or.inl rfl)) h
      · exact st_var R hi XI (Or.inr (Or.inr rfl)) h
      · exact st_12 R hi XI h
      · exact st_13 R hi XI h
    · have := R.2.2.2.2.2.1
      exact st_14 R (by omega) XI
  · have hn := R.2.1.1
    obtain ⟨r, rfl⟩ : ∃ q, r = q + 1 := ⟨r - 1, by omega⟩
    have FF : ∀ post : SX → Prop, (∃ q, fw_X17 post (nI (i + (r + 1))) q 1 (xit, xln, xrd, xop, xil, nI c, xml, wr, nI i, nI p, nI (fw_LM yk B s), bby, nI 0, sm, nI t, nI k, nI (fw_RK yk s), beg, (-1), plc, rch, xk, xf, xs, wh, aa, bb, par, ri, rb, rv, oi, os, ot, inp, lst, mad, vr, sav)) → (wpX_fastRun post (xit, xln, xrd, xop, xil, nI c, xml, wr, nI i, nI p, nI (fw_LM yk B s), bby, nI 0, sm, nI t, nI k, nI (fw_RK yk s), beg, (-1), plc, rch, xk, xf, xs, wh, aa, bb, par, ri, rb, rv, oi, os, ot, inp, lst, mad, vr, sav)) := by
      intro post H
      refine And.intro (vp_in_nI (by omega) (by decide)) (nm_r (e' := nI (i + (r + 1))) ?_ H)
      rw [nI_clamp (by omega), er, nI_add]
    rcases jf_run (xit := xit) (xln := xln) (xrd := xrd) (xop := xop) (xil := xil) (xml := xml) (wr := wr) (bby := bby) (plc := plc) (rch := rch) (xk := xk) (xf := xf) (xs := xs) (wh := wh) (aa := aa) (bb := bb) (par := par) (ri := ri) (rb := rb) (rv := rv) (oi := oi) (os := os) (ot := ot) (inp := inp) (sav := sav) (yit := yit) (yfd := yfd) (ymd := ymd) (ysa := ysa) (ytk := ytk) (yrd := yrd) (yks := yks) (yas := yas) (ybs := ybs) (yk := yk) (yf := yf) (ys := ys) (yin := yin) (yop := yop) (ynu := ynu) (yse := yse) (yth := yth) (z := i + (r + 1)) r i m p t k c e v sm beg ynx yra mad lst vr you R RO rfl hr g1 g2 g3 g4 with ⟨i', m', c1, u', v', a1, a2, a3, a4, a5⟩ | ⟨h, u', v', f, a1, a2, a3, a4, a5⟩
    · exact Or.inl ⟨i', m', c1, u', v', a1, a2, a3, fun post q H => XF post q (FF _ ⟨r + 2, a4 _ (r + 2) (by omega) H⟩), a5⟩
    · exact Or.inr ⟨h, u', v', f, a1, a2, fun post q H => XF post (q + 1) (FF _ ⟨r + 2, a4 _ (r + 2) (by omega) (a3 post q H)⟩), a5⟩
theorem fw_RUN_2 {g : Int32} {i m : Nat} {u : SX} {v : SY} (I : fw_RUN g i m u v) : 2 ≤ m := by
  refine fw_RUN_el (P := fun _ _ => 2 ≤ m) I ?_
  intros
  rename_i R
  rw [R.2.2.2.2.2.2.2.2.2.2]
  unfold fw_ms; omega
theorem fw_step {g : Int32} {i m : Nat} {u : SX} {v : SY} (I : fw_RUN g i m u v) : fw_ST g i m u v := by
  refine fw_RUN_el (P := fun u v => fw_ST g i m u v) I ?_
  intros
  rename_i R
  exact st_all R
theorem fw_loop {g : Int32} : ∀ w m i u v, m ≤ w → fw_RUN g i m u v → ∃ (h : Int32) (u' : SX) (v' : SY), fw_FIN g h u' v' ∧ (∀ post q, m ≤ q → post u' → fw_X66 post q u) ∧ (∀ post q, m ≤ q → post h v' → fw_Y50 post q 0 (nI i) v) := by
  intro w
  induction w with
  | zero => intro m i u v hm I; have := fw_RUN_2 I; omega
  | succ w ih =>
    intro m i u v hm I
    rcases fw_step I with ⟨i', m', c, u', v', a1, a2, a3, a4, a5⟩ | ⟨h, u', v', f, a1, a2, a3, a4⟩
    · obtain ⟨h, u2, v2, b1, b2, b3⟩ := ih m' i' u' v' (by omega) a3
      refine ⟨h, u2, v2, b1, fun post q hq H => ?_, fun post q hq H => ?_⟩
      · obtain ⟨q, rfl⟩ : ∃ r, q = r + 1 := ⟨q - 1, by omega⟩
        exact a4 post q (b2 post q (by omega) H)
      · obtain ⟨q, rfl⟩ : ∃ r, q = r + c := ⟨q - c, by omega⟩
        exact a5 post q (b3 post q (by omega) H)
    · have := fw_RUN_2 I
      refine ⟨h, u', v', a2, fun post q hq H => ?_, fun post q hq H => ?_⟩
      · obtain ⟨q, rfl⟩ : ∃ r, q = r + 2 := ⟨q - 2, by omega⟩
        exact a3 post q H
      · obtain ⟨q, rfl⟩ : ∃ r, q = r + f := ⟨q - f, by omega⟩
        exact a4 post q H
end
section
/-! the relation between the turns -/
def fw_R2 (xit xrd xil cnt xml : Int32) (xk xf wh aa bb par ri rb rv inp mad : Nat → Int32) (ysz yfd yls ymd : Int32) (yk yf ys yin you : Nat → Int32) : Prop :=
  (∃ m : Nat, m ≤ 40 ∧ xit = nI m ∧ ∀ j, j < m → fw_FV (xk j) (xf j)) ∧ (∃ q : Nat, q ≤ 64 ∧ xil = nI q ∧ yfd = nI q) ∧ (∀ j, yin j = inp j &&& 255) ∧
  (∃ c : Nat, c ≤ 40 ∧ cnt = nI c ∧ yls = nI c) ∧ (∃ w : Nat, w ≤ 64 ∧ xml = nI w ∧ ymd = nI w ∧ ∀ j, j < w → mad j &&& 255 = you j) ∧
  ((xrd = 0 ∧ ysz = -1) ∨ (xrd = 1 ∧ ∃ n : Nat, ysz = nI n ∧ (fw_FMT n yk yf ys wh aa bb par ri rb rv)))
/-- the relation at the head of a turn -/
def i_Rel (_ : Nat) (u : SX) (v : SY) : Prop := match u, v with
  | (xit, xln, xrd, xop, xil, cnt, xml, wr, pc, pos, lim, bby, bl, sm, st, tkn, dep, beg, oc, plc, rch, xk, xf, xs, wh, aa, bb, par, ri, rb, rv, oi, os, ot, inp, lst, mad, vr, sav), (yit, ysz, yfd, yls, ymd, ysa, ytk, ydp, yps, ybt, yst, yus, ynx, yra, yrd, yks, yas, ybs, yk, yf, ys, yin, yli, you, yva, yop, ynu, yse, yth) => (yit = xit ∧ yks = xk ∧ yas = xf ∧ ybs = xs ∧ yli = lst ∧ yva = vr ∧ ysa = plc ∧ ytk = rch) ∧ (fw_R2 xit xrd xil cnt xml xk xf wh aa bb par ri rb rv inp mad ysz yfd yls ymd yk yf ys yin you)
theorem zz_el {P : SX → SY → Prop} {k : Nat} {u : SX} {v : SY} (I : i_Rel k u v)
    (h : ∀ (xit xln xrd xop xil cnt xml wr pc pos lim bby bl sm st tkn dep beg oc plc rch : Int32) (xk xf xs wh aa bb par ri rb rv oi os ot inp lst mad vr sav : Nat → Int32) (ysz yfd yls ymd ydp yps ybt yst yus ynx yra yrd : Int32) (yk yf ys yin you yop ynu yse yth : Nat → Int32), (fw_R2 xit xrd xil cnt xml xk xf wh aa bb par ri rb rv inp mad ysz yfd yls ymd yk yf ys yin you) → P (xit, xln, xrd, xop, xil, cnt, xml, wr, pc, pos, lim, bby, bl, sm, st, tkn, dep, beg, oc, plc, rch, xk, xf, xs, wh, aa, bb, par, ri, rb, rv, oi, os, ot, inp, lst, mad, vr, sav) (xit, ysz, yfd, yls, ymd, plc, rch, ydp, yps, ybt, yst, yus, ynx, yra, yrd, xk, xf, xs, yk, yf, ys, yin, lst, you, vr, yop, ynu, yse, yth)) : P u v := by
  obtain ⟨xit, xln, xrd, xop, xil, cnt, xml, wr, pc, pos, lim, bby, bl, sm, st, tkn, dep, beg, oc, plc, rch, xk, xf, xs, wh, aa, bb, par, ri, rb, rv, oi, os, ot, inp, lst, mad, vr, sav⟩ := u
  obtain ⟨yit, ysz, yfd, yls, ymd, ysa, ytk, ydp, yps, ybt, yst, yus, ynx, yra, yrd, yks, yas, ybs, yk, yf, ys, yin, yli, you, yva, yop, ynu, yse, yth⟩ := v
  obtain ⟨⟨e1, e2, e3, e4, e5, e6, e7, e8⟩, R⟩ := I
  subst e1 e2 e3 e4 e5 e6 e7 e8
  exact h _ _ _ _ _ _ _ _ _ _ _ _ _ _ _ _ _ _ _ _ _ _ _ _ _ _ _ _ _ _ _ _ _ _ _ _ _ _ _ _ _ _ _ _ _ _ _ _ _ _ _ _ _ _ _ _ _ _ _ _ R
variable {xit xln xrd xop xil cnt xml wr pc pos lim bby bl sm st tkn dep beg oc plc rch : Int32} {xk xf xs wh aa bb par ri rb rv oi os ot inp lst mad vr sav : Nat → Int32} {yit ysz yfd yls ymd ysa ytk ydp yps ybt yst yus ynx yra yrd : Int32} {yks yas ybs yk yf ys yin yli you yva yop ynu yse yth : Nat → Int32}
theorem zz_mk {k : Nat} (R : (fw_R2 xit xrd xil cnt xml xk xf wh aa bb par ri rb rv inp mad ysz yfd yls ymd yk yf ys yin you)) : i_Rel k (xit, xln, xrd, xop, xil, cnt, xml, wr, pc, pos, lim, bby, bl, sm, st, tkn, dep, beg, oc, plc, rch, xk, xf, xs, wh, aa, bb, par, ri, rb, rv, oi, os, ot, inp, lst, mad, vr, sav) (xit, ysz, yfd, yls, ymd, plc, rch, ydp, yps, ybt, yst, yus, ynx, yra, yrd, xk, xf, xs, yk, yf, ys, yin, lst, you, vr, yop, ynu, yse, yth) := ⟨⟨rfl, rfl, rfl, rfl, rfl, rfl, rfl, rfl⟩, R⟩
/-- the end of a run -/
def fw_F2 (n c : Nat) (xit xil xml wr pos bl : Int32) (xk xf wh aa bb par ri rb rv inp mad : Nat → Int32) (yfd ymd yps ybt : Int32) (yk yf ys yin you : Nat → Int32) : Prop :=
  (∃ m : Nat, m ≤ 40 ∧ xit = nI m ∧ ∀ j, j < m → fw_FV (xk j) (xf j)) ∧ (∃ q : Nat, q ≤ 64 ∧ xil = nI q ∧ yfd = nI q) ∧ (fw_FMT n yk yf ys wh aa bb par ri rb rv) ∧ (∀ j, yin j = inp j &&& 255) ∧ c ≤ 40 ∧
      ((wr = 0 ∧ ∃ w : Nat, w ≤ 64 ∧ xml = nI w ∧ ymd = nI w ∧ ∀ j, j < w → mad j &&& 255 = you j) ∨
       (wr = 1 ∧ ∃ p b : Nat, pos = nI p ∧ yps = nI p ∧ bl = nI b ∧ ybt = nI b ∧ p ≤ 64 ∧ b ≤ 7 ∧ (0 < b → 0 < p) ∧ ∀ j, j < p - fw_c b → mad j &&& 255 = you j))
theorem fw_FIN_el {P : SX → SY → Prop} {g h : Int32} {u : SX} {v : SY} (I : fw_FIN g h u v)
    (hh : ∀ (xit xln xop xil xml pc pos lim bby bl sm st tkn dep beg plc rch : Int32) (xk xf xs wh aa bb par ri rb rv oi os ot inp lst mad vr sav : Nat → Int32) (yfd ymd ydp yps ybt yst yus ynx yra yrd : Int32) (yk yf ys yin you yop ynu yse yth : Nat → Int32) (n c : Nat), (fw_F2 n c xit xil xml g pos bl xk xf wh aa bb par ri rb rv inp mad yfd ymd yps ybt yk yf ys yin you) → P (xit, xln, 1, xop, xil, nI c, xml, g, pc, pos, lim, bby, bl, sm, st, tkn, dep, beg, h, plc, rch, xk, xf, xs, wh, aa, bb, par, ri, rb, rv, oi, os, ot, inp, lst, mad, vr, sav) (xit, nI n, yfd, nI c, ymd, plc, rch, ydp, yps, ybt, yst, yus, ynx, yra, yrd, xk, xf, xs, yk, yf, ys, yin, lst, you, vr, yop, ynu, yse, yth)) : P u v := by
  obtain ⟨xit, xln, xrd, xop, xil, cnt, xml, wr, pc, pos, lim, bby, bl, sm, st, tkn, dep, beg, oc, plc, rch, xk, xf, xs, wh, aa, bb, par, ri, rb, rv, oi, os, ot, inp, lst, mad, vr, sav⟩ := u
  obtain ⟨yit, ysz, yfd, yls, ymd, ysa, ytk, ydp, yps, ybt, yst, yus, ynx, yra, yrd, yks, yas, ybs, yk, yf, ys, yin, yli, you, yva, yop, ynu, yse, yth⟩ := v
  obtain ⟨n, c, ⟨t1, t2, t3, t4, t5, t6, t7⟩, F, hin, hc, e1, e2, e3, e4, e5, e6, e7, e8, e9, L⟩ := I
  subst t1 t2 t3 t4 t5 e1 e2 e3 e4 e5 e6 e7 e8 e9
  exact hh _ _ _ _ _ _ _ _ _ _ _ _ _ _ _ _ _ _ _ _ _ _ _ _ _ _ _ _ _ _ _ _ _ _ _ _ _ _ _ _ _ _ _ _ _ _ _ _ _ _ _ _ _ _ n c ⟨t6, t7, F, hin, hc, L⟩
/-! the start of a run -/
def fw_zv (f : Nat → Int32) : Nat → (Nat → Int32)
  | 0 => f
  | k + 1 => upd (fw_zv f k) k 0
theorem xx_go2 {post : SX → Prop} (H : ∃ n, (wX_go_66 post n xit xln xrd xop xil cnt xml wr 0 0 lim 0 0 0 0 0 0 beg (-1) plc rch xk xf xs wh aa bb par ri rb rv oi os ot inp lst mad (fw_zv vr 8) sav)) : ∀ d k, k + d = 8 → (wX_go_2 post xit xln xrd xop xil cnt xml wr pc pos lim bby bl sm st tkn dep beg oc plc rch (d + 1) (nI k) xk xf xs wh aa bb par ri rb rv oi os ot inp lst mad (fw_zv vr k) sav)
  | 0, k, h => by
    obtain rfl : k = 8 := by omega
    exact br_t (by decide) H
  | d + 1, k, h => by
    refine br_f (nI_ge (b := 8) (by omega) (by decide)) (And.intro (vp_in_nI (by omega) (by decide)) (nm_r (e' := fw_zv vr (k + 1)) ?_ (nm_r (nI_1 k) (xx_go2 H d (k + 1) (by omega)))))
    rw [nI_clamp (by omega)]; rfl
theorem yy_run2 {post : Int32 → SY → Prop} (H : ∃ n, (wY_run_50 post n 0 0 yit ysz yfd yls ymd ysa ytk 0 0 0 0 0 ynx yra yrd yks yas ybs yk yf ys yin yli you (fw_zv yva 8) yop ynu yse yth)) : ∀ d k, k + d = 8 → (wY_run_2 post yit ysz yfd yls ymd ysa ytk ydp yps ybt yst yus ynx yra yrd (d + 1) (nI k) yks yas ybs yk yf ys yin yli you (fw_zv yva k) yop ynu yse yth)
  | 0, k, h => by
    obtain rfl : k = 8 := by omega
    exact br_t (by decide) H
  | d + 1, k, h => by
    refine br_f (nI_ge (b := 8) (by omega) (by decide)) (And.intro (vp_in_nI (by omega) (by decide)) (nm_r (e' := fw_zv yva (k + 1)) ?_ (nm_r (nI_1 k) (yy_run2 H d (k + 1) (by omega)))))
    rw [nI_clamp (by omega)]; rfl
theorem fw_run {n B c : Nat} (T : (fw_STAT xit xrd xil yit yfd xk xf xs yks yas ybs)) (F : (fw_FMT n yk yf ys wh aa bb par ri rb rv)) (M : (fw_MD wr yrd yfd B)) (hin : ∀ j, yin j = inp j &&& 255) (hc : c ≤ 40) (hw : wr = 0 → ∃ w : Nat, w ≤ 64 ∧ xml = nI w ∧ ymd = nI w ∧ ∀ j, j < w → mad j &&& 255 = you j) :
    ∃ (h : Int32) (u' : SX) (v' : SY), fw_FIN wr h u' v' ∧ (∀ post : SX → Prop, post u' → (wpX_go post (xit, xln, xrd, xop, xil, nI c, xml, wr, pc, pos, nI B, bby, bl, sm, st, tkn, dep, beg, oc, plc, rch, xk, xf, xs, wh, aa, bb, par, ri, rb, rv, oi, os, ot, inp, lst, mad, vr, sav))) ∧ (∀ post : Int32 → SY → Prop, post h v' → (wpY_run post (yit, nI n, yfd, nI c, ymd, ysa, ytk, ydp, yps, ybt, yst, yus, ynx, yra, yrd, yks, yas, ybs, yk, yf, ys, yin, lst, you, vr, yop, ynu, yse, yth))) := by
  have D : (fw_DP wr xml ymd 0 0 0 0 inp mad yin you) := by
    refine ⟨by omega, by omega, fun z => absurd z (by omega), hin, ?_⟩
    rcases M.2 with ⟨h, _⟩ | ⟨h, _⟩
    · exact Or.inl ⟨h, fun z => absurd z (by omega), rfl, hw h⟩
    · exact Or.inr ⟨h, fun z => absurd z (by omega), rfl, fun j hj => absurd hj (by omega)⟩
  have I : fw_RUN wr 0 (fw_ms n 0 0 yk []) (xit, xln, xrd, xop, xil, nI c, xml, wr, nI 0, nI 0, nI B, 0, nI 0, 0, nI 0, nI 0, nI 0, beg, (-1), plc, rch, xk, xf, xs, wh, aa, bb, par, ri, rb, rv, oi, os, ot, inp, lst, mad, fw_zv vr 8, sav) (yit, nI n, yfd, nI c, ymd, ysa, ytk, nI 0, nI 0, nI 0, nI 0, nI 0, ynx, yra, yrd, yks, yas, ybs, yk, yf, ys, yin, lst, you, fw_zv vr 8, yop, ynu, yse, yth) :=
    ⟨n, B, 0, 0, 0, 0, c, [], ⟨T, F, M, D, trivial, by omega, by omega, by omega, hc, Nat.zero_le _, rfl⟩, ⟨rfl, rfl, rfl, rfl, rfl, rfl, rfl, rfl, rfl, rfl⟩, ⟨rfl, rfl, rfl, rfl, rfl, rfl, rfl, rfl, rfl⟩⟩
  obtain ⟨h, u', v', a1, a2, a3⟩ := fw_loop _ _ _ _ _ (Nat.le_refl _) I
  exact ⟨h, u', v', a1, fun post H => ⟨9, xx_go2 ⟨_, a2 post _ (Nat.le_refl _) H⟩ 8 0 rfl⟩, fun post H => ⟨9, yy_run2 ⟨_, a3 post _ (Nat.le_refl _) H⟩ 8 0 rfl⟩⟩
end
section
/-! the owed statements, all but compile's -/
variable {xit xln xrd xop xil cnt xml wr pc pos lim bby bl sm st tkn dep beg oc plc rch : Int32} {xk xf xs wh aa bb par ri rb rv oi os ot inp lst mad vr sav : Nat → Int32} {yit ysz yfd yls ymd ysa ytk ydp yps ybt yst yus ynx yra yrd : Int32} {yks yas ybs yk yf ys yin yli you yva yop ynu yse yth : Nat → Int32}
theorem i_up {k : Nat} {u : SX} {v : SY} (h : i_Rel k u v) : i_Rel (k + 4) u v := h
theorem i_vc0 : wpX_init (fun u => wpY_init (fun v => i_Rel 0 u v)) :=
  ⟨⟨rfl, rfl, rfl, rfl, rfl, rfl, rfl, rfl⟩, ⟨0, by omega, rfl, fun j hj => absurd hj (by omega)⟩, ⟨0, by omega, rfl, rfl⟩, fun _ => (by decide : (0 : Int32) = 0 &&& 255), ⟨0, by omega, rfl, rfl⟩, ⟨0, by omega, rfl, rfl, fun j hj => absurd hj (by omega)⟩, Or.inl ⟨rfl, rfl⟩⟩
/-! put -/
theorem fw_k8 {q : Nat} (hq : q ≤ 13) : (nI q).toInt8.toInt32 = nI q := by
  have : ∀ q, q < 14 → (nI q).toInt8.toInt32 = nI q := by decide +kernel
  exact this q (by omega)
theorem fw_ge1 {q : Nat} {b : Nat} (hq : q < 2 ^ 31) (hb : b < 2 ^ 31) (h : nI b ≤ nI q) : b ≤ q := (nI_leI hb hq).mp h
theorem fw_rg {x lo hi : Int32} {a b : Nat} (el : lo = nI a) (eh : hi.toInt = b) (hb : b < 2 ^ 31) (ha : a < 2 ^ 31) (h1 : lo ≤ x) (h2 : x ≤ hi) : ∃ q : Nat, a ≤ q ∧ q ≤ b ∧ x = nI q := by
  subst el
  have h0 : ¬ x < 0 := by
    rw [Int32.lt_iff_toInt_lt, show (0 : Int32).toInt = 0 from by decide]
    rw [Int32.le_iff_toInt_le, nI_toInt ha] at h1
    omega
  obtain ⟨q, hq, e⟩ := nI_of2 eh h0 h2
  subst e
  exact ⟨q, fw_ge1 (by omega) ha h1, hq, rfl⟩
theorem fw_fits (p0 p1 p2 : Int32) : ∃ r : Int32, (r = 0 ∨ (r = 1 ∧ fw_FV p0 p1 ∧ p0.toInt8.toInt32 = p0)) ∧ (∀ post : Int32 → Prop, post r → wpX_fits post p0 p1 p2) ∧ (∀ post : Int32 → Prop, post r → wpY_fits post p0 p1 p2) := by
  have N : ¬ (0 ≤ p0 ∧ p0 ≤ 13) → ∃ r : Int32, (r = 0 ∨ (r = 1 ∧ fw_FV p0 p1 ∧ p0.toInt8.toInt32 = p0)) ∧ (∀ post : Int32 → Prop, post r → wpX_fits post p0 p1 p2) ∧ (∀ post : Int32 → Prop, post r → wpY_fits post p0 p1 p2) := by
    intro h
    have ne : ∀ c : Int32, 0 ≤ c → c ≤ 13 → ¬ p0 = c := fun c h1 h2 e => h (by rw [e]; exact ⟨h1, h2⟩)
    have G : ∀ post : Int32 → Prop, post 0 → wX_fits_164 post p0 := fun post H => br_f (ne 7 (by decide) (by decide)) (br_f (ne 12 (by decide) (by decide)) (br_f (ne 13 (by decide) (by decide)) H))
    have G2 : ∀ post : Int32 → Prop, post 0 → wY_fits_142 post p0 p2 := fun post H => yy_win (fun a b => absurd ⟨a, b⟩ h) (fun _ => br_t rfl H)
    refine ⟨0, Or.inl rfl, fun post H => ?_, fun post H => ?_⟩
    · by_cases z : p0 < 0
      · exact br_t z (G post H)
      · refine br_f z (br_t ?_ (G post H))
        have z' := Int32.not_lt.mp z
        have : ¬ p0 ≤ 13 := fun w => h ⟨z', w⟩
        rw [Int32.le_iff_toInt_le, show (13 : Int32).toInt = 13 from by decide] at this
        rw [Int32.lt_iff_toInt_lt, show (11 : Int32).toInt = 11 from by decide]
        omega
    · by_cases z : p0 < 0
      · exact br_t z (G2 post H)
      · exact br_f z (br_t (Int32.not_le.mp (fun w => h ⟨Int32.not_lt.mp z, w⟩)) (G2 post H))
  by_cases h : 0 ≤ p0 ∧ p0 ≤ 13
  rotate_left
  · exact N h
  obtain ⟨q, _, hq, eq⟩ := fw_rg (a := 0) (b := 13) rfl (by decide) (by decide) (by decide) h.1 h.2
  have k8 : p0.toInt8.toInt32 = p0 := by rw [eq]; exact fw_k8 hq
  -- the items with a variable alone
  have B7 : (p0 = 1 ∨ p0 = 4 ∨ p0 = 5 ∨ p0 = 6 ∨ p0 = 9 ∨ p0 = 10 ∨ p0 = 11) → ∃ r : Int32, (r = 0 ∨ (r = 1 ∧ fw_FV p0 p1 ∧ p0.toInt8.toInt32 = p0)) ∧ (∀ post : Int32 → Prop, post r → wX_fits_148 post p2) ∧ (∀ post : Int32 → Prop, post r → wY_fits_142 post p0 p2) := by
    intro hk
    by_cases g : 0 ≤ p2 ∧ p2 ≤ 7
    · refine ⟨1, Or.inr ⟨rfl, ⟨⟨q, hq, eq⟩, fun z => ?_, fun z => ?_, fun z => ?_, fun z => ?_⟩, k8⟩, fun post H => xx_out (fun _ _ => br_t rfl H) (fun z => absurd g z), fun post H => yy_win (fun _ _ => br_f (by decide) (yy_win (fun _ _ => br_f (by decide) H) (fun z => absurd g z))) (fun z => absurd h z)⟩
      all_goals (rw [z] at hk; exact absurd hk (by decide))
    · exact ⟨0, Or.inl rfl, fun post H => xx_out (fun a b => absurd ⟨a, b⟩ g) (fun _ => br_f (by decide) H), fun post H => yy_win (fun _ _ => br_f (by decide) (yy_win (fun a b => absurd ⟨a, b⟩ g) (fun _ => br_t rfl H))) (fun z => absurd h z)⟩
  rcases fw_kinds hq eq with e | e | e | e | e | e | e | e | e | e | e | e | e | e
  · -- 0
    subst e
    by_cases g1 : 1 ≤ p1 ∧ p1 ≤ 4
    · by_cases g2 : 0 ≤ p2 ∧ p2 ≤ 31
      · obtain ⟨a, a1, a4, ea⟩ := fw_rg (a := 1) (b := 4) rfl (by decide) (by decide) (by decide) g1.1 g1.2
        refine ⟨1, Or.inr ⟨rfl, ⟨⟨0, by omega, rfl⟩, fun _ => ⟨a, a1, a4, ea⟩, fun z => absurd z (by decide), fun z => absurd z (by decide), fun z => absurd z (by decide)⟩, k8⟩, fun post H => ?_, fun post H => ?_⟩
        · exact br_f (by decide) (br_f (by decide) (br_t rfl (xx_out (fun _ _ => br_t rfl (xx_out (fun _ _ => br_t rfl H) (fun z => absurd g2 z))) (fun z => absurd g1 z))))
        · exact br_f (by decide) (br_f (by decide) (br_t rfl (yy_win (fun _ _ => br_f (by decide) (yy_win (fun _ _ => br_f (by decide) H) (fun z => absurd g2 z))) (fun z => absurd g1 z))))
      · refine ⟨0, Or.inl rfl, fun post H => ?_, fun post H => ?_⟩
        · exact br_f (by decide) (br_f (by decide) (br_t rfl (xx_out (fun _ _ => br_t rfl (xx_out (fun a b => absurd ⟨a, b⟩ g2) (fun _ => br_f (by decide) H))) (fun z => absurd g1 z))))
        · exact br_f (by decide) (br_f (by decide) (br_t rfl (yy_win (fun _ _ => br_f (by decide) (yy_win (fun a b => absurd ⟨a, b⟩ g2) (fun _ => br_t rfl H))) (fun z => absurd g1 z))))
    · refine ⟨0, Or.inl rfl, fun post H => ?_, fun post H => ?_⟩
      · exact br_f (by decide) (br_f (by decide) (br_t rfl (xx_out (fun a b => absurd ⟨a, b⟩ g1) (fun _ => br_f (by decide) H))))
      · exact br_f (by decide) (br_f (by decide) (br_t rfl (yy_win (fun a b => absurd ⟨a, b⟩ g1) (fun _ => br_t rfl H))))
  · -- 1
    obtain ⟨r, hr, hX, hY⟩ := B7 (by rw [e]; decide)
    subst e
    exact ⟨r, hr, fun post H => br_f (by decide) (br_f (by decide) (br_f (by decide) (br_t rfl (hX post H)))), fun post H => br_f (by decide) (br_f (by decide) (br_f (by decide) (br_t rfl (hY post H))))⟩
  · -- 2
    subst e
    by_cases g1 : 1 ≤ p1 ∧ p1 ≤ 16
    · by_cases g2 : 0 ≤ p2 ∧ p2 ≤ 7
      · obtain ⟨a, a1, a4, ea⟩ := fw_rg (a := 1) (b := 16) rfl (by decide) (by decide) (by decide) g1.1 g1.2
        refine ⟨1, Or.inr ⟨rfl, ⟨⟨2, by omega, rfl⟩, fun z => absurd z (by decide), fun _ => ⟨a, a1, a4, ea⟩, fun z => absurd z (by decide), fun z => absurd z (by decide)⟩, k8⟩, fun post H => ?_, fun post H => ?_⟩
        · exact br_f (by decide) (br_f (by decide) (br_f (by decide) (br_f (by decide) (br_t rfl (xx_out (fun _ _ => br_t rfl (xx_out (fun _ _ => br_t rfl H) (fun z => absurd g2 z))) (fun z => absurd g1 z))))))
        · exact br_f (by decide) (br_f (by decide) (br_f (by decide) (br_f (by decide) (br_t rfl (yy_win (fun _ _ => br_f (by decide) (yy_win (fun _ _ => br_f (by decide) H) (fun z => absurd g2 z))) (fun z => absurd g1 z))))))
      · refine ⟨0, Or.inl rfl, fun post H => ?_, fun post H => ?_⟩
        · exact br_f (by decide) (br_f (by decide) (br_f (by decide) (br_f (by decide) (br_t rfl (xx_out (fun _ _ => br_t rfl (xx_out (fun a b => absurd ⟨a, b⟩ g2) (fun _ => br_f (by decide) H))) (fun z => absurd g1 z))))))
        · exact br_f (by decide) (br_f (by decide) (br_f (by decide) (br_f (by decide) (br_t rfl (yy_win (fun _ _ => br_f (by decide) (yy_win (fun a b => absurd ⟨a, b⟩ g2) (fun _ => br_t rfl H))) (fun z => absurd g1 z))))))
    · refine ⟨0, Or.inl rfl, fun post H => ?_, fun post H => ?_⟩
      · exact br_f (by decide) (br_f (by decide) (br_f (by decide) (br_f (by decide) (br_t rfl (xx_out (fun a b => absurd ⟨a, b⟩ g1) (fun _ => br_f (by decide) H))))))
      · exact br_f (by decide) (br_f (by decide) (br_f (by decide) (br_f (by decide) (br_t rfl (yy_win (fun a b => absurd ⟨a, b⟩ g1) (fun _ => br_t rfl H))))))
  · -- 3
    subst e
    by_cases g1 : 0 ≤ p1 ∧ p1 ≤ 255
    · obtain ⟨a, a1, a4, ea⟩ := fw_rg (a := 0) (b := 255) rfl (by decide) (by decide) (by decide) g1.1 g1.2
      refine ⟨1, Or.inr ⟨rfl, ⟨⟨3, by omega, rfl⟩, fun z => absurd z (by decide), fun z => absurd z (by decide), fun _ => ⟨a, a4, ea⟩, fun z => absurd z (by decide)⟩, k8⟩, fun post H => ?_, fun post H => ?_⟩
      · exact br_f (by decide) (br_f (by decide) (br_f (by decide) (br_f (by decide) (br_f (by decide) (br_t rfl (xx_out (fun _ _ => br_t rfl H) (fun z => absurd g1 z)))))))
      · exact br_f (by decide) (br_f (by decide) (br_f (by decide) (br_f (by decide) (br_f (by decide) (br_t rfl (yy_win (fun _ _ => And.intro narrow_b1 H) (fun z => absurd g1 z)))))))
    · refine ⟨0, Or.inl rfl, fun post H => ?_, fun post H => ?_⟩
      · exact br_f (by decide) (br_f (by decide) (br_f (by decide) (br_f (by decide) (br_f (by decide) (br_t rfl (xx_out (fun a b => absurd ⟨a, b⟩ g1) (fun _ => br_f (by decide) H)))))))
      · exact br_f (by decide) (br_f (by decide) (br_f (by decide) (br_f (by decide) (br_f (by decide) (br_t rfl (yy_win (fun a b => absurd ⟨a, b⟩ g1) (fun _ => And.intro narrow_b0 H)))))))
  · -- 4
    obtain ⟨r, hr, hX, hY⟩ := B7 (by rw [e]; decide)
    subst e
    exact ⟨r, hr, fun post H => br_f (by decide) (br_f (by decide) (br_f (by decide) (br_f (by decide) (br_f (by decide) (br_f (by decide) (br_t rfl (hX post H))))))), fun post H => br_f (by decide) (br_f (by decide) (br_f (by decide) (br_f (by decide) (br_f (by decide) (br_f (by decide) (br_t rfl (hY post H)))))))⟩
  · -- 5
    obtain ⟨r, hr, hX, hY⟩ := B7 (by rw [e]; decide)
    subst e
    exact ⟨r, hr, fun post H => br_f (by decide) (br_f (by decide) (br_f (by decide) (br_f (by decide) (br_f (by decide) (br_f (by decide) (br_f (by decide) (br_t rfl (hX post H)))))))), fun post H => br_f (by decide) (br_f (by decide) (br_f (by decide) (br_f (by decide) (br_f (by decide) (br_f (by decide) (br_f (by decide) (br_t rfl (hY post H))))))))⟩
  · -- 6
    obtain ⟨r, hr, hX, hY⟩ := B7 (by rw [e]; decide)
    subst e
    exact ⟨r, hr, fun post H => br_f (by decide) (br_f (by decide) (br_f (by decide) (br_f (by decide) (br_f (by decide) (br_f (by decide) (br_f (by decide) (br_f (by decide) (br_t rfl (hX post H))))))))), fun post H => br_f (by decide) (br_f (by decide) (br_f (by decide) (br_f (by decide) (br_f (by decide) (br_f (by decide) (br_f (by decide) (br_f (by decide) (br_t rfl (hY post H)))))))))⟩
  · -- 7
    subst e
    refine ⟨1, Or.inr ⟨rfl, ⟨⟨7, by omega, rfl⟩, fun z => absurd z (by decide), fun z => absurd z (by decide), fun z => absurd z (by decide), fun z => absurd z (by decide)⟩, k8⟩, fun post H => ?_, fun post H => ?_⟩
    · exact br_f (by decide) (br_f (by decide) (br_f (by decide) (br_f (by decide) (br_f (by decide) (br_f (by decide) (br_f (by decide) (br_f (by decide) (br_f (by decide) (br_t rfl (br_t rfl H))))))))))
    · exact br_f (by decide) (br_f (by decide) (br_f (by decide) (br_f (by decide) (br_f (by decide) (br_f (by decide) (br_f (by decide) (br_f (by decide) (br_f (by decide) (br_t rfl H)))))))))
  · -- 8
    subst e
    by_cases g1 : 2 ≤ p1 ∧ p1 ≤ 8
    · obtain ⟨a, a1, a4, ea⟩ := fw_rg (a := 2) (b := 8) rfl (by decide) (by decide) (by decide) g1.1 g1.2
      refine ⟨1, Or.inr ⟨rfl, ⟨⟨8, by omega, rfl⟩, fun z => absurd z (by decide), fun z => absurd z (by decide), fun z => absurd z (by decide), fun _ => ⟨a, a1, a4, ea⟩⟩, k8⟩, fun post H => ?_, fun post H => ?_⟩
      · exact br_f (by decide) (br_f (by decide) (br_f (by decide) (br_f (by decide) (br_f (by decide) (br_f (by decide) (br_f (by decide) (br_f (by decide) (br_f (by decide) (br_f (by decide) (br_t rfl (xx_out (fun _ _ => br_t rfl H) (fun z => absurd g1 z))))))))))))
      · exact br_f (by decide) (br_f (by decide) (br_f (by decide) (br_f (by decide) (br_f (by decide) (br_f (by decide) (br_f (by decide) (br_f (by decide) (br_f (by decide) (br_f (by decide) (br_t rfl (yy_win (fun _ _ => And.intro narrow_b1 H) (fun z => absurd g1 z))))))))))))
    · refine ⟨0, Or.inl rfl, fun post H => ?_, fun post H => ?_⟩
      · exact br_f (by decide) (br_f (by decide) (br_f (by decide) (br_f (by decide) (br_f (by decide) (br_f (by decide) (br_f (by decide) (br_f (by decide) (br_f (by decide) (br_f (by decide) (br_t rfl (xx_out (fun a b => absurd ⟨a, b⟩ g1) (fun _ => br_f (by decide) H))))))))))))
      · exact br_f (by decide) (br_f (by decide) (br_f (by decide) (br_f (by decide) (br_f (by decide) (br_f (by decide) (br_f (by decide) (br_f (by decide) (br_f (by decide) (br_f (by decide) (br_t rfl (yy_win (fun a b => absurd ⟨a, b⟩ g1) (fun _ => And.intro narrow_b0 H))))))))))))
  · -- 9
    obtain ⟨r, hr, hX, hY⟩ := B7 (by rw [e]; decide)
    subst e
    exact ⟨r, hr, fun post H => br_f (by decide) (br_f (by decide) (br_f (by decide) (br_f (by decide) (br_f (by decide) (br_f (by decide) (br_f (by decide) (br_f (by decide) (br_f (by decide) (br_f (by decide) (br_f (by decide) (br_t rfl (hX post H)))))))))))), fun post H => br_f (by decide) (br_f (by decide) (br_f (by decide) (br_f (by decide) (br_f (by decide) (br_f (by decide) (br_f (by decide) (br_f (by decide) (br_f (by decide) (br_f (by decide) (br_f (by decide) (br_t rfl (hY post H))))))))))))⟩
  · -- 10
    obtain ⟨r, hr, hX, hY⟩ := B7 (by rw [e]; decide)
    subst e
    exact ⟨r, hr, fun post H => br_f (by decide) (br_f (by decide) (br_f (by decide) (br_f (by decide) (br_f (by decide) (br_f (by decide) (br_f (by decide) (br_f (by decide) (br_f (by decide) (br_f (by decide) (br_f (by decide) (br_f (by decide) (br_t rfl (hX post H))))))))))))), fun post H => br_f (by decide) (br_f (by decide) (br_f (by decide) (br_f (by decide) (br_f (by decide) (br_f (by decide) (br_f (by decide) (br_f (by decide) (br_f (by decide) (br_f (by decide) (br_f (by decide) (br_f (by decide) (br_t rfl (hY post H)))))))))))))⟩
  · -- 11
    obtain ⟨r, hr, hX, hY⟩ := B7 (by rw [e]; decide)
    subst e
    exact ⟨r, hr, fun post H => br_f (by decide) (br_f (by decide) (br_f (by decide) (br_f (by decide) (br_f (by decide) (br_f (by decide) (br_f (by decide) (br_f (by decide) (br_f (by decide) (br_f (by decide) (br_f (by decide) (br_f (by decide) (br_f (by decide) (br_t rfl (hX post H)))))))))))))), fun post H => br_f (by decide) (br_f (by decide) (br_f (by decide) (br_f (by decide) (br_f (by decide) (br_f (by decide) (br_f (by decide) (br_f (by decide) (br_f (by decide) (br_f (by decide) (br_f (by decide) (br_f (by decide) (br_f (by decide) (br_t rfl (hY post H))))))))))))))⟩
  · -- 12
    subst e
    refine ⟨1, Or.inr ⟨rfl, ⟨⟨12, by omega, rfl⟩, fun z => absurd z (by decide), fun z => absurd z (by decide), fun z => absurd z (by decide), fun z => absurd z (by decide)⟩, k8⟩, fun post H => ?_, fun post H => ?_⟩
    · exact br_f (by decide) (br_t (by decide) (br_f (by decide) (br_t rfl H)))
    · exact br_f (by decide) (br_f (by decide) (br_f (by decide) (br_f (by decide) (br_f (by decide) (br_f (by decide) (br_f (by decide) (br_f (by decide) (br_f (by decide) (br_f (by decide) (br_f (by decide) (br_f (by decide) (br_f (by decide) (br_f (by decide) (br_t rfl H))))))))))))))
  · -- 13
    subst e
    refine ⟨1, Or.inr ⟨rfl, ⟨⟨13, by omega, rfl⟩, fun z => absurd z (by decide), fun z => absurd z (by decide), fun z => absurd z (by decide), fun z => absurd z (by decide)⟩, k8⟩, fun post H => ?_, fun post H => ?_⟩
    · exact br_f (by decide) (br_t (by decide) (br_f (by decide) (br_f (by decide) (br_t rfl H))))
    · exact br_f (by decide) (br_f (by decide) (br_f (by decide) (br_f (by decide) (br_f (by decide) (br_f (by decide) (br_f (by decide) (br_f (by decide) (br_f (by decide) (br_f (by decide) (br_f (by decide) (br_f (by decide) (br_f (by decide) (br_f (by decide) (br_f (by decide) (br_t rfl H)))))))))))))))
theorem i_vc_put {k : Nat} {u : SX} {v : SY} (I : i_Rel k u v) (hk : k + 4 ≤ 2048) (v1 : Int32) (v2 : Int32) (v3 : Int32) : wpX_put (fun r u' => wpY_put (fun r' v' => r' = r ∧ i_Rel (k + 4) u' v') v v1 v2 v3) u v1 v2 v3 := by
  refine zz_el (P := fun u v => wpX_put (fun r u' => wpY_put (fun r' v' => r' = r ∧ i_Rel (k + 4) u' v') v v1 v2 v3) u v1 v2 v3) I ?_
  intro xit xln xrd xop xil cnt xml wr pc pos lim bby bl sm st tkn dep beg oc plc rch xk xf xs wh aa bb par ri rb rv oi os ot inp lst mad vr sav ysz yfd yls ymd ydp yps ybt yst yus ynx yra yrd yk yf ys yin you yop ynu yse yth R
  obtain ⟨r, hr, hX, hY⟩ := fw_fits v1 v2 v3
  refine hX _ ?_
  rcases hr with rfl | ⟨rfl, FV, k8⟩
  · exact br_t rfl (hY _ (br_t rfl ⟨rfl, zz_mk R⟩))
  · have R' := R
    obtain ⟨⟨m, hm, rfl, hF⟩, R2⟩ := R'
    refine br_f (by decide) ?_
    by_cases e : m = 40
    · subst e
      exact br_t rfl (hY _ (br_f (by decide) (br_t rfl ⟨rfl, zz_mk R⟩)))
    · have n40 : ¬ nI m = 40 := fw_40 (by omega)
      have hin : vp_in (nI m) 40 := vp_in_nI (by omega) (by decide)
      have cm : (nI m).toNatClampNeg = m := nI_clamp (by omega)
      refine br_f n40 (And.intro hin (nm_r (e' := upd xk m v1) (by rw [cm, pk_vb, k8]) (And.intro hin (nm_r (e' := upd xf m v2) (by rw [cm]) (And.intro hin (nm_r (e' := upd xs m v3) (by rw [cm]) (nm_r (nI_1 m) ?_)))))))
      refine hY _ (br_f (by decide) (br_f n40 (And.intro hin (nm_r (e' := upd xk m v1) (by rw [cm]) (And.intro hin (nm_r (e' := upd xf m v2) (by rw [cm]) (nm_r (nI_1 m) (And.intro hin (nm_r (e' := upd xs m v3) (by rw [cm]) ⟨(nI_1 m).symm, zz_mk ⟨⟨m + 1, by omega, rfl, fun j hj => ?_⟩, R2⟩⟩)))))))))
      by_cases ej : j = m
      · rw [ej, pk_us, pk_us]; exact FV
      · rw [pk_un ej, pk_un ej]; exact hF j (by omega)
theorem i_vc_wipe {k : Nat} {u : SX} {v : SY} (I : i_Rel k u v) (hk : k + 4 ≤ 2048) : wpX_wipe (fun r u' => wpY_wipe (fun r' v' => r' = r ∧ i_Rel (k + 4) u' v') v) u := by
  refine zz_el (P := fun u v => wpX_wipe (fun r u' => wpY_wipe (fun r' v' => r' = r ∧ i_Rel (k + 4) u' v') v) u) I ?_
  intro xit xln xrd xop xil cnt xml wr pc pos lim bby bl sm st tkn dep beg oc plc rch xk xf xs wh aa bb par ri rb rv oi os ot inp lst mad vr sav ysz yfd yls ymd ydp yps ybt yst yus ynx yra yrd yk yf ys yin you yop ynu yse yth R
  exact ⟨rfl, zz_mk ⟨⟨0, by omega, rfl, fun j hj => absurd hj (by omega)⟩, R.2⟩⟩
end
section
/-! feed, parse, write, and the readers -/
variable {xit xln xrd xop xil cnt xml wr pc pos lim bby bl sm st tkn dep beg oc plc rch : Int32} {xk xf xs wh aa bb par ri rb rv oi os ot inp lst mad vr sav : Nat → Int32} {yit ysz yfd yls ymd ysa ytk ydp yps ybt yst yus ynx yra yrd : Int32} {yks yas ybs yk yf ys yin yli you yva yop ynu yse yth : Nat → Int32}
theorem jj_feed {a : Nat} {w : Int32} (ha : a ≤ 4) : ∀ d e (q : Nat) (inp yin : Nat → Int32), e + d = a → q ≤ 64 → (∀ j, yin j = inp j &&& 255) →
    ∃ (q' : Nat) (inp' yin' : Nat → Int32), q' ≤ 64 ∧ (∀ j, yin' j = inp' j &&& 255) ∧
      (∀ post : Int32 → SX → Prop, post (nI q') (xit, xln, xrd, xop, nI q', cnt, xml, wr, pc, pos, lim, bby, bl, sm, st, tkn, dep, beg, oc, plc, rch, xk, xf, xs, wh, aa, bb, par, ri, rb, rv, oi, os, ot, inp', lst, mad, vr, sav) → (wX_feed_13 post w (nI a) xit xln xrd xop cnt xml wr pc pos lim bby bl sm st tkn dep beg oc plc rch (d + 1) (nI e) (nI q) xk xf xs wh aa bb par ri rb rv oi os ot inp lst mad vr sav)) ∧
      (∀ post : Int32 → SY → Prop, post (nI q') (yit, ysz, nI q', yls, ymd, ysa, ytk, ydp, yps, ybt, yst, yus, ynx, yra, yrd, yks, yas, ybs, yk, yf, ys, yin', yli, you, yva, yop, ynu, yse, yth) → (wY_feed_14 post w (nI a) yit ysz yls ymd ysa ytk ydp yps ybt yst yus ynx yra yrd (d + 1) (nI e) (nI q) yks yas ybs yk yf ys yin yli you yva yop ynu yse yth)) := by
  intro d
  induction d with
  | zero =>
    intro e q inp yin he hq hin
    obtain rfl : e = a := by omega
    exact ⟨q, inp, yin, hq, hin, fun post H => br_t (Int32.le_refl _) H, fun post H => br_t (Int32.le_refl _) H⟩
  | succ d ih =>
    intro e q inp yin he hq hin
    have hlt : ¬ nI a ≤ nI e := nI_ge (by omega) (by omega)
    rcases Nat.lt_or_ge q 64 with g | g
    · have g' : ¬ (64 : Int32) ≤ nI q := nI_ge (b := 64) g (by decide)
      have hv : vp_in (nI q) 64 := vp_in_nI g (by decide)
      have cq : (nI q).toNatClampNeg = q := nI_clamp (by omega)
      obtain ⟨q', inp', yin', a1, a2, a3, a4⟩ := ih (e + 1) (q + 1) (upd inp q (w >>> ((8 * nI e) &&& 31)).toInt8.toInt32) (upd yin q ((w >>> ((8 * nI e) &&& 31)) &&& 255)) (by omega) (by omega) (by
        intro j
        by_cases ej : j = q
        · rw [ej, pk_us, pk_us, bp_b]
        · rw [pk_un ej, pk_un ej, hin])
      exact ⟨q', inp', yin', a1, a2, fun post H => br_f hlt (br_f g' (nm_r (nI_1 q) (And.intro hv (nm_r (by rw [cq, pk_vb]) (nm_r (nI_1 e) (a3 post H)))))), fun post H => br_f hlt (br_f g' (nm_r (nI_1 q) (And.intro hv (nm_r (by rw [cq]) (nm_r (nI_1 e) (a4 post H))))))⟩
    · have g' : (64 : Int32) ≤ nI q := nI_le (a := 64) g (by omega)
      obtain ⟨q', inp', yin', a1, a2, a3, a4⟩ := ih (e + 1) q inp yin (by omega) hq hin
      exact ⟨q', inp', yin', a1, a2, fun post H => br_f hlt (br_t g' (nm_r (nI_1 e) (a3 post H))), fun post H => br_f hlt (br_t g' (nm_r (nI_1 e) (a4 post H)))⟩
theorem i_vc_feed {k : Nat} {u : SX} {v : SY} (I : i_Rel k u v) (hk : k + 4 ≤ 2048) (v1 : Int32) (v2 : Int32) : wpX_feed (fun r u' => wpY_feed (fun r' v' => r' = r ∧ i_Rel (k + 4) u' v') v v1 v2) u v1 v2 := by
  refine zz_el (P := fun u v => wpX_feed (fun r u' => wpY_feed (fun r' v' => r' = r ∧ i_Rel (k + 4) u' v') v v1 v2) u v1 v2) I ?_
  intro xit xln xrd xop xil cnt xml wr pc pos lim bby bl sm st tkn dep beg oc plc rch xk xf xs wh aa bb par ri rb rv oi os ot inp lst mad vr sav ysz yfd yls ymd ydp yps ybt yst yus ynx yra yrd yk yf ys yin you yop ynu yse yth R
  by_cases g : 1 ≤ v2 ∧ v2 ≤ 4
  · obtain ⟨a, a1, a4, rfl⟩ := fw_rg (a := 1) (b := 4) rfl (by decide) (by decide) (by decide) g.1 g.2
    obtain ⟨r1, ⟨q, hq, rfl, rfl⟩, hin, R2⟩ := R
    obtain ⟨q', inp', yin', b1, b2, bX, bY⟩ := jj_feed (xit := xit) (xln := xln) (xrd := xrd) (xop := xop) (cnt := cnt) (xml := xml) (wr := wr) (pc := pc) (pos := pos) (lim := lim) (bby := bby) (bl := bl) (sm := sm) (st := st) (tkn := tkn) (dep := dep) (beg := beg) (oc := oc) (plc := plc) (rch := rch) (xk := xk) (xf := xf) (xs := xs) (wh := wh) (aa := aa) (bb := bb) (par := par) (ri := ri) (rb := rb) (rv := rv) (oi := oi) (os := os) (ot := ot) (lst := lst) (mad := mad) (vr := vr) (sav := sav) (yit := xit) (ysz := ysz) (yls := yls) (ymd := ymd) (ysa := plc) (ytk := rch) (ydp := ydp) (yps := yps) (ybt := ybt) (yst := yst) (yus := yus) (ynx := ynx) (yra := yra) (yrd := yrd) (yks := xk) (yas := xf) (ybs := xs) (yk := yk) (yf := yf) (ys := ys) (yli := lst) (you := you) (yva := vr) (yop := yop) (ynu := ynu) (yse := yse) (yth := yth) (w := v1) a4 a 0 q inp yin (by omega) hq hin
    refine xx_out (fun _ _ => br_t rfl ⟨a + 1, bX _ ?_⟩) (fun z => absurd g z)
    exact br_f (Int32.not_lt.mpr g.1) (br_t g.2 ⟨a + 1, bY _ ⟨rfl, zz_mk ⟨r1, ⟨q', b1, rfl, rfl⟩, b2, R2⟩⟩⟩)
  · refine xx_out (fun a b => absurd ⟨a, b⟩ g) (fun _ => br_f (by decide) ?_)
    by_cases z : v2 < 1
    · exact br_t z ⟨rfl, zz_mk R⟩
    · exact br_f z (br_f (fun w => g ⟨Int32.not_lt.mp z, w⟩) ⟨rfl, zz_mk R⟩)
theorem i_vc_parse {k : Nat} {u : SX} {v : SY} (I : i_Rel k u v) (hk : k + 4 ≤ 2048) : wpX_parse (fun r u' => wpY_parse (fun r' v' => r' = r ∧ i_Rel (k + 4) u' v') v) u := by
  refine zz_el (P := fun u v => wpX_parse (fun r u' => wpY_parse (fun r' v' => r' = r ∧ i_Rel (k + 4) u' v') v) u) I ?_
  intro xit xln xrd xop xil cnt xml wr pc pos lim bby bl sm st tkn dep beg oc plc rch xk xf xs wh aa bb par ri rb rv oi os ot inp lst mad vr sav ysz yfd yls ymd ydp yps ybt yst yus ynx yra yrd yk yf ys yin you yop ynu yse yth R
  have R' := R
  obtain ⟨r1, ⟨q, hq, rfl, rfl⟩, hin, _, r5, ⟨rfl, rfl⟩ | ⟨rfl, n, rfl, F⟩⟩ := R'
  · exact br_t rfl (br_f (by decide) ⟨rfl, zz_mk R⟩)
  · obtain ⟨h, u', v', FN, hX, hY⟩ := fw_run (xit := xit) (xln := xln) (xrd := 1) (xop := xop) (xil := nI q) (xml := xml) (wr := 0) (pc := pc) (pos := pos) (bby := bby) (bl := bl) (sm := sm) (st := st) (tkn := tkn) (dep := dep) (beg := beg) (oc := oc) (plc := plc) (rch := rch) (xk := xk) (xf := xf) (xs := xs) (wh := wh) (aa := aa) (bb := bb) (par := par) (ri := ri) (rb := rb) (rv := rv) (oi := oi) (os := os) (ot := ot) (inp := inp) (lst := lst) (mad := mad) (vr := vr) (sav := sav) (yit := xit) (yfd := nI q) (ymd := ymd) (ysa := plc) (ytk := rch) (ydp := ydp) (yps := yps) (ybt := ybt) (yst := yst) (yus := yus) (ynx := ynx) (yra := yra) (yrd := 1) (yks := xk) (yas := xf) (ybs := xs) (yk := yk) (yf := yf) (ys := ys) (yin := yin) (you := you) (yop := yop) (ynu := ynu) (yse := yse) (yth := yth) (n := n) (B := q) (c := 0) ⟨rfl, rfl, rfl, rfl, rfl, r1, ⟨q, hq, rfl, rfl⟩⟩ F ⟨hq, Or.inl ⟨rfl, rfl, rfl⟩⟩ hin (by omega) (fun _ => r5)
    refine br_f (by decide) (hX _ ?_)
    refine fw_FIN_el (P := fun u' v' => (∀ post : Int32 → SY → Prop, post h v' → (wpY_run post (xit, nI n, nI q, nI 0, ymd, plc, rch, ydp, yps, ybt, yst, yus, ynx, yra, 1, xk, xf, xs, yk, yf, ys, yin, lst, you, vr, yop, ynu, yse, yth))) → (match u' with | (u_xit, u_xln, u_xrd, u_xop, u_xil, u_cnt, u_xml, u_wr, u_pc, u_pos, u_lim, u_bby, u_bl, u_sm, u_st, u_tkn, u_dep, u_beg, u_oc, u_plc, u_rch, u_xk, u_xf, u_xs, u_wh, u_aa, u_bb, u_par, u_ri, u_rb, u_rv, u_oi, u_os, u_ot, u_inp, u_lst, u_mad, u_vr, u_sav) => (wpY_parse (fun r' v' => r' = u_oc ∧ i_Rel (k + 4) (u_xit, u_xln, u_xrd, u_xop, 0, u_cnt, u_xml, u_wr, u_pc, u_pos, u_lim, u_bby, u_bl, u_sm, u_st, u_tkn, u_dep, u_beg, u_oc, u_plc, u_rch, u_xk, u_xf, u_xs, u_wh, u_aa, u_bb, u_par, u_ri, u_rb, u_rv, u_oi, u_os, u_ot, u_inp, u_lst, u_mad, u_vr, u_sav) v') (xit, nI n, nI q, yls, ymd, plc, rch, ydp, yps, ybt, yst, yus, ynx, yra, yrd, xk, xf, xs, yk, yf, ys, yin, lst, you, vr, yop, ynu, yse, yth)))) FN ?_ hY
    intro xit' xln' xop' xil' xml' pc' pos' lim' bby' bl' sm' st' tkn' dep' beg' plc' rch' xk' xf' xs' wh' aa' bb' par' ri' rb' rv' oi' os' ot' inp' lst' mad' vr' sav' yfd' ymd' ydp' yps' ybt' yst' yus' ynx' yra' yrd' yk' yf' ys' yin' you' yop' ynu' yse' yth' n' c' G hY'
    obtain ⟨g1, g2, g3, g4, g5, ⟨_, g6⟩ | ⟨g6, _⟩⟩ := G
    · have hn : n ≤ 40 := F.1
      exact br_t (nI_pos' (by omega)) (hY' _ ⟨rfl, zz_mk ⟨g1, ⟨0, by omega, rfl, rfl⟩, g4, ⟨c', g5, rfl, rfl⟩, g6, Or.inr ⟨rfl, n', rfl, g3⟩⟩⟩)
    · exact absurd g6 (by decide)
theorem i_vc_write {k : Nat} {u : SX} {v : SY} (I : i_Rel k u v) (hk : k + 4 ≤ 2048) : wpX_write (fun r u' => wpY_write (fun r' v' => r' = r ∧ i_Rel (k + 4) u' v') v) u := by
  refine zz_el (P := fun u v => wpX_write (fun r u' => wpY_write (fun r' v' => r' = r ∧ i_Rel (k + 4) u' v') v) u) I ?_
  intro xit xln xrd xop xil cnt xml wr pc pos lim bby bl sm st tkn dep beg oc plc rch xk xf xs wh aa bb par ri rb rv oi os ot inp lst mad vr sav ysz yfd yls ymd ydp yps ybt yst yus ynx yra yrd yk yf ys yin you yop ynu yse yth R
  have R' := R
  obtain ⟨r1, ⟨q, hq, rfl, rfl⟩, hin, ⟨c, hc, rfl, rfl⟩, r5, ⟨rfl, rfl⟩ | ⟨rfl, n, rfl, F⟩⟩ := R'
  · exact br_t rfl (br_f (by decide) ⟨rfl, zz_mk R⟩)
  · obtain ⟨h, u', v', FN, hX, hY⟩ := fw_run (xit := xit) (xln := xln) (xrd := 1) (xop := xop) (xil := nI q) (xml := xml) (wr := 1) (pc := pc) (pos := pos) (bby := bby) (bl := bl) (sm := sm) (st := st) (tkn := tkn) (dep := dep) (beg := beg) (oc := oc) (plc := plc) (rch := rch) (xk := xk) (xf := xf) (xs := xs) (wh := wh) (aa := aa) (bb := bb) (par := par) (ri := ri) (rb := rb) (rv := rv) (oi := oi) (os := os) (ot := ot) (inp := inp) (lst := lst) (mad := mad) (vr := vr) (sav := sav) (yit := xit) (yfd := nI q) (ymd := ymd) (ysa := plc) (ytk := rch) (ydp := ydp) (yps := yps) (ybt := ybt) (yst := yst) (yus := yus) (ynx := ynx) (yra := yra) (yrd := 0) (yks := xk) (yas := xf) (ybs := xs) (yk := yk) (yf := yf) (ys := ys) (yin := yin) (you := you) (yop := yop) (ynu := ynu) (yse := yse) (yth := yth) (n := n) (B := 64) (c := c) ⟨rfl, rfl, rfl, rfl, rfl, r1, ⟨q, hq, rfl, rfl⟩⟩ F ⟨by omega, Or.inr ⟨rfl, rfl, rfl⟩⟩ hin hc (fun z => absurd z (by decide))
    refine br_f (by decide) (hX _ ?_)
    refine fw_FIN_el (P := fun u' v' => (∀ post : Int32 → SY → Prop, post h v' → (wpY_run post (xit, nI n, nI q, nI c, ymd, plc, rch, ydp, yps, ybt, yst, yus, ynx, yra, 0, xk, xf, xs, yk, yf, ys, yin, lst, you, vr, yop, ynu, yse, yth))) → (match u' with | (u_xit, u_xln, u_xrd, u_xop, u_xil, u_cnt, u_xml, u_wr, u_pc, u_pos, u_lim, u_bby, u_bl, u_sm, u_st, u_tkn, u_dep, u_beg, u_oc, u_plc, u_rch, u_xk, u_xf, u_xs, u_wh, u_aa, u_bb, u_par, u_ri, u_rb, u_rv, u_oi, u_os, u_ot, u_inp, u_lst, u_mad, u_vr, u_sav) => (u_bl ≤ 0 → (wpY_write (fun r' v' => r' = u_oc ∧ i_Rel (k + 4) (u_xit, u_xln, u_xrd, u_xop, u_xil, u_cnt, u_pos, u_wr, u_pc, u_pos, u_lim, u_bby, u_bl, u_sm, u_st, u_tkn, u_dep, u_beg, u_oc, u_plc, u_rch, u_xk, u_xf, u_xs, u_wh, u_aa, u_bb, u_par, u_ri, u_rb, u_rv, u_oi, u_os, u_ot, u_inp, u_lst, u_mad, u_vr, u_sav) v') (xit, nI n, nI q, nI c, ymd, plc, rch, ydp, yps, ybt, yst, yus, ynx, yra, yrd, xk, xf, xs, yk, yf, ys, yin, lst, you, vr, yop, ynu, yse, yth))) ∧ (¬ u_bl ≤ 0 → ∀ y, y = u_pos - 1 → (wpY_write (fun r' v' => r' = u_oc ∧ i_Rel (k + 4) (u_xit, u_xln, u_xrd, u_xop, u_xil, u_cnt, y, u_wr, u_pc, u_pos, u_lim, u_bby, u_bl, u_sm, u_st, u_tkn, u_dep, u_beg, u_oc, u_plc, u_rch, u_xk, u_xf, u_xs, u_wh, u_aa, u_bb, u_par, u_ri, u_rb, u_rv, u_oi, u_os, u_ot, u_inp, u_lst, u_mad, u_vr, u_sav) v') (xit, nI n, nI q, nI c, ymd, plc, rch, ydp, yps, ybt, yst, yus, ynx, yra, yrd, xk, xf, xs, yk, yf, ys, yin, lst, you, vr, yop, ynu, yse, yth))))) FN ?_ hY
    intro xit' xln' xop' xil' xml' pc' pos' lim' bby' bl' sm' st' tkn' dep' beg' plc' rch' xk' xf' xs' wh' aa' bb' par' ri' rb' rv' oi' os' ot' inp' lst' mad' vr' sav' yfd' ymd' ydp' yps' ybt' yst' yus' ynx' yra' yrd' yk' yf' ys' yin' you' yop' ynu' yse' yth' n' c' G hY'
    have hn : n ≤ 40 := F.1
    obtain ⟨g1, g2, g3, g4, g5, ⟨g6, _⟩ | ⟨_, p, b, rfl, rfl, rfl, rfl, p1, p2, p3, p4⟩⟩ := G
    · exact absurd g6 (by decide)
    · rcases Nat.eq_zero_or_pos b with rfl | hb
      · exact br_t (by decide) (br_t (nI_pos' (by omega)) (hY' _ (br_t (by decide) ⟨rfl, zz_mk ⟨g1, g2, g4, ⟨c', g5, rfl, rfl⟩, ⟨p, p1, rfl, rfl, p4⟩, Or.inr ⟨rfl, n', rfl, g3⟩⟩⟩)))
      · have hp0 := p3 hb
        rw [fw_c1 hb] at p4
        exact br_f (nI_nle hb (by omega)) (nm_r (fw_m1 hp0) (br_t (nI_pos' (by omega)) (hY' _ (br_f (nI_nle hb (by omega)) (nm_r (fw_m1 hp0) ⟨rfl, zz_mk ⟨g1, g2, g4, ⟨c', g5, rfl, rfl⟩, ⟨p - 1, by omega, rfl, rfl, p4⟩, Or.inr ⟨rfl, n', rfl, g3⟩⟩⟩)))))
theorem i_vc_value {k : Nat} {u : SX} {v : SY} (I : i_Rel k u v) (hk : k + 4 ≤ 2048) (v1 : Int32) : wpX_value (fun r u' => wpY_value (fun r' v' => r' = r ∧ i_Rel (k + 4) u' v') v v1) u v1 := by
  refine zz_el (P := fun u v => wpX_value (fun r u' => wpY_value (fun r' v' => r' = r ∧ i_Rel (k + 4) u' v') v v1) u v1) I ?_
  intro xit xln xrd xop xil cnt xml wr pc pos lim bby bl sm st tkn dep beg oc plc rch xk xf xs wh aa bb par ri rb rv oi os ot inp lst mad vr sav ysz yfd yls ymd ydp yps ybt yst yus ynx yra yrd yk yf ys yin you yop ynu yse yth R
  have R' := R
  obtain ⟨r1, r2, hin, ⟨c, hc, rfl, rfl⟩, R2⟩ := R'
  by_cases e : c = 40
  · subst e
    exact br_t rfl (br_t rfl ⟨rfl, zz_mk R⟩)
  · have n40 : ¬ nI c = 40 := fw_40 (by omega)
    have hv : vp_in (nI c) 40 := vp_in_nI (by omega) (by decide)
    have cc : (nI c).toNatClampNeg = c := nI_clamp (by omega)
    exact br_f n40 (nm_r (nI_1 c) (And.intro hv (nm_r (e' := upd lst c v1) (by rw [cc]) (br_f n40 (nm_r (nI_1 c) (And.intro hv (nm_r (e' := upd lst c v1) (by rw [cc]) ⟨rfl, zz_mk ⟨r1, r2, hin, ⟨c + 1, by omega, rfl, rfl⟩, R2⟩⟩)))))))
theorem i_vc_drop {k : Nat} {u : SX} {v : SY} (I : i_Rel k u v) (hk : k + 4 ≤ 2048) : wpX_drop (fun r u' => wpY_drop (fun r' v' => r' = r ∧ i_Rel (k + 4) u' v') v) u := by
  refine zz_el (P := fun u v => wpX_drop (fun r u' => wpY_drop (fun r' v' => r' = r ∧ i_Rel (k + 4) u' v') v) u) I ?_
  intro xit xln xrd xop xil cnt xml wr pc pos lim bby bl sm st tkn dep beg oc plc rch xk xf xs wh aa bb par ri rb rv oi os ot inp lst mad vr sav ysz yfd yls ymd ydp yps ybt yst yus ynx yra yrd yk yf ys yin you yop ynu yse yth R
  obtain ⟨r1, r2, hin, ⟨c, hc, rfl, rfl⟩, R2⟩ := R
  exact ⟨rfl, zz_mk ⟨r1, r2, hin, ⟨0, by omega, rfl, rfl⟩, R2⟩⟩
theorem i_vc_place {k : Nat} {u : SX} {v : SY} (I : i_Rel k u v) (hk : k + 4 ≤ 2048) : wpX_place (fun r => wpY_place (fun r' => r' = r ∧ i_Rel (k + 4) u v) v) u := by
  refine zz_el (P := fun u v => wpX_place (fun r => wpY_place (fun r' => r' = r ∧ i_Rel (k + 4) u v) v) u) I ?_
  intro xit xln xrd xop xil cnt xml wr pc pos lim bby bl sm st tkn dep beg oc plc rch xk xf xs wh aa bb par ri rb rv oi os ot inp lst mad vr sav ysz yfd yls ymd ydp yps ybt yst yus ynx yra yrd yk yf ys yin you yop ynu yse yth R
  exact ⟨rfl, zz_mk R⟩
theorem i_vc_at {k : Nat} {u : SX} {v : SY} (I : i_Rel k u v) (hk : k + 4 ≤ 2048) : wpX_at (fun r => wpY_at (fun r' => r' = r ∧ i_Rel (k + 4) u v) v) u := by
  refine zz_el (P := fun u v => wpX_at (fun r => wpY_at (fun r' => r' = r ∧ i_Rel (k + 4) u v) v) u) I ?_
  intro xit xln xrd xop xil cnt xml wr pc pos lim bby bl sm st tkn dep beg oc plc rch xk xf xs wh aa bb par ri rb rv oi os ot inp lst mad vr sav ysz yfd yls ymd ydp yps ybt yst yus ynx yra yrd yk yf ys yin you yop ynu yse yth R
  exact ⟨rfl, zz_mk R⟩
theorem i_vc_values {k : Nat} {u : SX} {v : SY} (I : i_Rel k u v) (hk : k + 4 ≤ 2048) : wpX_values (fun r => wpY_values (fun r' => r' = r ∧ i_Rel (k + 4) u v) v) u := by
  refine zz_el (P := fun u v => wpX_values (fun r => wpY_values (fun r' => r' = r ∧ i_Rel (k + 4) u v) v) u) I ?_
  intro xit xln xrd xop xil cnt xml wr pc pos lim bby bl sm st tkn dep beg oc plc rch xk xf xs wh aa bb par ri rb rv oi os ot inp lst mad vr sav ysz yfd yls ymd ydp yps ybt yst yus ynx yra yrd yk yf ys yin you yop ynu yse yth R
  obtain ⟨c, hc, e1, e2⟩ := R.2.2.2.1
  exact ⟨e2.trans e1.symm, zz_mk R⟩
theorem i_vc_bytes {k : Nat} {u : SX} {v : SY} (I : i_Rel k u v) (hk : k + 4 ≤ 2048) : wpX_bytes (fun r => wpY_bytes (fun r' => r' = r ∧ i_Rel (k + 4) u v) v) u := by
  refine zz_el (P := fun u v => wpX_bytes (fun r => wpY_bytes (fun r' => r' = r ∧ i_Rel (k + 4) u v) v) u) I ?_
  intro xit xln xrd xop xil cnt xml wr pc pos lim bby bl sm st tkn dep beg oc plc rch xk xf xs wh aa bb par ri rb rv oi os ot inp lst mad vr sav ysz yfd yls ymd ydp yps ybt yst yus ynx yra yrd yk yf ys yin you yop ynu yse yth R
  obtain ⟨c, hc, e1, e2, _⟩ := R.2.2.2.2.1
  exact ⟨e2.trans e1.symm, zz_mk R⟩
theorem fw_ltm {c : Nat} {x : Int32} (hc : c ≤ 64) : x ≤ nI c - 1 ↔ x < nI c := by
  rw [Int32.le_iff_toInt_le, Int32.lt_iff_toInt_lt, show (1 : Int32) = nI 1 from rfl, pk_sub_toInt (by omega) (by omega), nI_toInt (by omega)]
  omega
theorem i_vc_valueAt {k : Nat} {u : SX} {v : SY} (I : i_Rel k u v) (hk : k + 4 ≤ 2048) (v1 : Int32) : wpX_valueAt (fun r => wpY_valueAt (fun r' => r' = r ∧ i_Rel (k + 4) u v) v v1) u v1 := by
  refine zz_el (P := fun u v => wpX_valueAt (fun r => wpY_valueAt (fun r' => r' = r ∧ i_Rel (k + 4) u v) v v1) u v1) I ?_
  intro xit xln xrd xop xil cnt xml wr pc pos lim bby bl sm st tkn dep beg oc plc rch xk xf xs wh aa bb par ri rb rv oi os ot inp lst mad vr sav ysz yfd yls ymd ydp yps ybt yst yus ynx yra yrd yk yf ys yin you yop ynu yse yth R
  have R' := R
  obtain ⟨r1, r2, hin, ⟨c, hc, rfl, rfl⟩, R2⟩ := R'
  refine xx_out (fun a b => br_t rfl ?_) (fun z => br_f (by decide) ?_)
  · rw [fw_ltm (by omega)] at b
    have a' := Int32.not_lt.mpr a
    obtain ⟨j, hj, rfl⟩ := nI_of a'
    have hv : vp_in (nI j) 40 := vp_in_nI (Nat.lt_of_lt_of_le ((nI_ltI hj (by omega)).mp b) hc) (by decide)
    exact And.intro hv (br_f a' (br_t b (And.intro hv ⟨rfl, zz_mk R⟩)))
  · rw [fw_ltm (by omega)] at z
    by_cases a : v1 < 0
    · exact br_t a ⟨rfl, zz_mk R⟩
    · exact br_f a (br_f (fun w => z ⟨Int32.not_lt.mp a, w⟩) ⟨rfl, zz_mk R⟩)
theorem i_vc_byteAt {k : Nat} {u : SX} {v : SY} (I : i_Rel k u v) (hk : k + 4 ≤ 2048) (v1 : Int32) : wpX_byteAt (fun r => wpY_byteAt (fun r' => r' = r ∧ i_Rel (k + 4) u v) v v1) u v1 := by
  refine zz_el (P := fun u v => wpX_byteAt (fun r => wpY_byteAt (fun r' => r' = r ∧ i_Rel (k + 4) u v) v v1) u v1) I ?_
  intro xit xln xrd xop xil cnt xml wr pc pos lim bby bl sm st tkn dep beg oc plc rch xk xf xs wh aa bb par ri rb rv oi os ot inp lst mad vr sav ysz yfd yls ymd ydp yps ybt yst yus ynx yra yrd yk yf ys yin you yop ynu yse yth R
  have R' := R
  obtain ⟨r1, r2, hin, r4, ⟨c, hc, rfl, rfl, hm⟩, R2⟩ := R'
  refine xx_out (fun a b => br_t rfl ?_) (fun z => br_f (by decide) ?_)
  · rw [fw_ltm (by omega)] at b
    have a' := Int32.not_lt.mpr a
    obtain ⟨j, hj, rfl⟩ := nI_of a'
    have hjc := (nI_ltI hj (by omega)).mp b
    have hv : vp_in (nI j) 64 := vp_in_nI (Nat.lt_of_lt_of_le hjc hc) (by decide)
    refine And.intro hv (br_f a' (br_t b (And.intro hv ⟨?_, zz_mk R⟩)))
    rw [nI_clamp hj]
    exact (hm j hjc).symm
  · rw [fw_ltm (by omega)] at z
    by_cases a : v1 < 0
    · exact br_t a ⟨rfl, zz_mk R⟩
    · exact br_f a (br_f (fun w => z ⟨Int32.not_lt.mp a, w⟩) ⟨rfl, zz_mk R⟩)
theorem i_vc_variable {k : Nat} {u : SX} {v : SY} (I : i_Rel k u v) (hk : k + 4 ≤ 2048) (v1 : Int32) : wpX_variable (fun r => wpY_variable (fun r' => r' = r ∧ i_Rel (k + 4) u v) v v1) u v1 := by
  refine zz_el (P := fun u v => wpX_variable (fun r => wpY_variable (fun r' => r' = r ∧ i_Rel (k + 4) u v) v v1) u v1) I ?_
  intro xit xln xrd xop xil cnt xml wr pc pos lim bby bl sm st tkn dep beg oc plc rch xk xf xs wh aa bb par ri rb rv oi os ot inp lst mad vr sav ysz yfd yls ymd ydp yps ybt yst yus ynx yra yrd yk yf ys yin you yop ynu yse yth R
  refine xx_out (fun a b => br_t rfl ?_) (fun z => br_f (by decide) ?_)
  · obtain ⟨j, _, hj, rfl⟩ := fw_rg (a := 0) (b := 7) rfl (by decide) (by decide) (by decide) a b
    have hv : vp_in (nI j) 8 := vp_in_nI (by omega) (by decide)
    exact And.intro hv (br_f (Int32.not_lt.mpr a) (br_t b (And.intro hv ⟨rfl, zz_mk R⟩)))
  · by_cases a : v1 < 0
    · exact br_t a ⟨rfl, zz_mk R⟩
    · exact br_f a (br_f (fun w => z ⟨Int32.not_lt.mp a, w⟩) ⟨rfl, zz_mk R⟩)
end
section
/-! the check of the nesting -/
variable {xit xln xrd xop xil cnt xml wr pc pos lim bby bl sm st tkn dep beg oc plc rch : Int32} {xk xf xs wh aa bb par ri rb rv oi os ot inp lst mad vr sav : Nat → Int32} {yit ysz yfd yls ymd ysa ytk ydp yps ybt yst yus ynx yra yrd : Int32} {yks yas ybs yk yf ys yin yli you yva yop ynu yse yth : Nat → Int32}
def fw_top (K : Nat → Int32) : List Nat → Int32
  | [] => -1
  | o :: _ => K o
/-- the reference keeps the kinds of what has begun -/
def fw_AK (K f : Nat → Int32) : List Nat → Prop
  | [] => True
  | x :: t => f t.length = K x ∧ fw_AK K f t
theorem fw_AK_upd {K f : Nat → Int32} {k : Nat} {v : Int32} : ∀ {t : List Nat}, t.length ≤ k → fw_AK K f t → fw_AK K (upd f k v) t
  | [], _, _ => trivial
  | x :: t, h, a => by
    rw [List.length_cons] at h
    exact ⟨(pk_un (by omega)).trans a.1, fw_AK_upd (by omega) a.2⟩
def fw_wp (K : Nat → Int32) (i : Nat) : Prop :=
  (∀ j, j < i → K j = 12 → ∃ o t, fw_st K j = o :: t ∧ K o = 5) ∧ (∀ j, j < i → K j = 13 → ∃ o t, fw_st K j = o :: t) ∧
  (∀ j, j < i → (K j = 4 ∨ K j = 5 ∨ K j = 6) → (fw_st K j).length < 4)
theorem fw_wp_s {K : Nat → Int32} {i : Nat} (w : fw_wp K i) (h12 : K i = 12 → ∃ o t, fw_st K i = o :: t ∧ K o = 5) (h13 : K i = 13 → ∃ o t, fw_st K i = o :: t) (ho : (K i = 4 ∨ K i = 5 ∨ K i = 6) → (fw_st K i).length < 4) : fw_wp K (i + 1) := by
  refine ⟨fun j hj => ?_, fun j hj => ?_, fun j hj => ?_⟩
  · by_cases e : j = i
    · rw [e]; exact h12
    · exact w.1 j (by omega)
  · by_cases e : j = i
    · rw [e]; exact h13
    · exact w.2.1 j (by omega)
  · by_cases e : j = i
    · rw [e]; exact ho
    · exact w.2.2 j (by omega)
theorem fw_b8 {i : Nat} (h : i < 128) : (nI i).toInt8.toInt32 = nI i := by
  have : ∀ i, i < 128 → (nI i).toInt8.toInt32 = nI i := by decide +kernel
  exact this i h
theorem fw_nop {k : Int32} (h : ¬ (k = 4 ∨ k = 5 ∨ k = 6)) : k < 4 ∨ (¬ k < 4 ∧ 6 < k) := by
  by_cases h4 : k < 4
  · exact Or.inl h4
  · refine Or.inr ⟨h4, ?_⟩
    by_cases h6 : 6 < k
    · exact h6
    · exact absurd ((fw_op_iff k).mpr ⟨h4, h6⟩) h
theorem fw_o12 {k : Int32} (h : k = 4 ∨ k = 5 ∨ k = 6) : ¬ k = 12 ∧ ¬ k = 13 ∧ ¬ k < 4 ∧ ¬ 6 < k ∧ k ≤ 6 ∧ ¬ k < 3 ∧ ¬ k = 10 ∧ ¬ k = 11 ∧ ¬ k = 9 := by
  rcases h with rfl | rfl | rfl <;> decide
theorem xs_head {post : Int32 → SX → Prop} {m i q : Nat} {l : List Nat} (hm : m ≤ 40) (hi : i < m) (hl : l.length ≤ 4) (A : fw_AL oi l) (hx : ∀ x, x ∈ l → x < 40)
    (H : (wX_structure_49 post (wX_structure_7 post (nI m) xln xrd xil cnt xml wr pc pos lim bby bl sm st tkn dep beg oc plc rch q) (nI i) (xk i) (fw_top xk l) (nI m) xln xrd (nI l.length) xil cnt xml wr pc pos lim bby bl sm st tkn dep beg oc plc rch xk xf xs wh aa bb par ri rb rv oi os ot inp lst mad vr sav)) : (wX_structure_7 post (nI m) xln xrd xil cnt xml wr pc pos lim bby bl sm st tkn dep beg oc plc rch (q + 1) (nI i) (nI l.length) xk xf xs wh aa bb par ri rb rv oi os ot inp lst mad vr sav) := by
  refine br_f (nI_ge hi (by omega)) (And.intro (vp_in_nI (by omega) (by decide)) (nm_r (e' := xk i) (by rw [nI_clamp (by omega)]) ?_))
  cases l with
  | nil => exact br_t (by decide) H
  | cons o t =>
    have ho := hx o List.mem_cons_self
    rw [List.length_cons] at hl
    have e1 : nI (t.length + 1) - 1 = nI t.length := nI_pred _
    refine br_f (nI_nle (by simp) (by simp; omega)) ?_
    rw [List.length_cons, e1, nI_clamp (n := t.length) (by omega), A.1, nI_clamp (n := o) (by omega)]
    exact And.intro (vp_in_nI (by omega) (by decide)) (And.intro (vp_in_nI ho (by decide)) H)
/-- the component's item: it goes on, or it is wrong -/
theorem xs_49 {post : Int32 → SX → Prop} {m i q d : Nat} {z : Int32} (hi : i < 40) (hd : d ≤ 4) (hz : (z = -1 ∧ d = 0) ∨ (0 ≤ z ∧ 0 < d))
    (Hop : (xk i = 4 ∨ xk i = 5 ∨ xk i = 6) → d < 4 → (wX_structure_7 post (nI m) xln xrd xil cnt xml wr pc pos lim bby bl sm st tkn dep beg oc plc rch q (nI (i + 1)) (nI (d + 1)) xk xf xs wh aa bb par ri rb rv (upd oi d (nI i)) os ot inp lst mad vr sav))
    (H12 : xk i = 12 → z = 5 → (wX_structure_7 post (nI m) xln xrd xil cnt xml wr pc pos lim bby bl sm st tkn dep beg oc plc rch q (nI (i + 1)) (nI d) xk xf xs wh aa bb par ri rb rv (upd oi (d - 1) (nI i)) os ot inp lst mad vr sav))
    (H13 : xk i = 13 → 0 < d → (wX_structure_7 post (nI m) xln xrd xil cnt xml wr pc pos lim bby bl sm st tkn dep beg oc plc rch q (nI (i + 1)) (nI (d - 1)) xk xf xs wh aa bb par ri rb rv oi os ot inp lst mad vr sav))
    (Hno : ¬ (xk i = 4 ∨ xk i = 5 ∨ xk i = 6) → ¬ xk i = 12 → ¬ xk i = 13 → (wX_structure_7 post (nI m) xln xrd xil cnt xml wr pc pos lim bby bl sm st tkn dep beg oc plc rch q (nI (i + 1)) (nI d) xk xf xs wh aa bb par ri rb rv oi os ot inp lst mad vr sav))
    (Hbad : ((xk i = 4 ∨ xk i = 5 ∨ xk i = 6) ∧ d = 4) ∨ (xk i = 12 ∧ ¬ z = 5) ∨ (xk i = 13 ∧ d = 0) → post (nI i) (nI m, xln, xrd, nI d, xil, cnt, xml, wr, pc, pos, lim, bby, bl, sm, st, tkn, dep, beg, oc, plc, rch, xk, xf, xs, wh, aa, bb, par, ri, rb, rv, oi, os, ot, inp, lst, mad, vr, sav)) :
    (wX_structure_49 post (wX_structure_7 post (nI m) xln xrd xil cnt xml wr pc pos lim bby bl sm st tkn dep beg oc plc rch q) (nI i) (xk i) z (nI m) xln xrd (nI d) xil cnt xml wr pc pos lim bby bl sm st tkn dep beg oc plc rch xk xf xs wh aa bb par ri rb rv oi os ot inp lst mad vr sav) := by
  have BAD : ((xk i = 4 ∨ xk i = 5 ∨ xk i = 6) ∧ d = 4) ∨ (xk i = 12 ∧ ¬ z = 5) ∨ (xk i = 13 ∧ d = 0) → (wX_structure_111 post (wX_structure_7 post (nI m) xln xrd xil cnt xml wr pc pos lim bby bl sm st tkn dep beg oc plc rch q) (nI i) (xk i) 1 (nI m) xln xrd (nI d) xil cnt xml wr pc pos lim bby bl sm st tkn dep beg oc plc rch xk xf xs wh aa bb par ri rb rv oi os ot inp lst mad vr sav) := fun h => br_f (by decide) (Hbad h)
  by_cases ho : xk i = 4 ∨ xk i = 5 ∨ xk i = 6
  · obtain ⟨n12, n13, n4, n6, _⟩ := fw_o12 ho
    refine br_f n12 (br_f n13 (br_f n4 (br_f n6 (pk_eq d 4 (fun e => BAD (Or.inl ⟨ho, e⟩)) (fun e => br_t rfl (br_f n4 (br_f n6 (nm_r (nI_1 d) (And.intro (vp_in_nI (by omega) (by decide)) (nm_r (e' := upd oi d (nI i)) ?_ (nm_r (nI_1 i) (Hop ho (by omega)))))))))))))
    rw [nI_clamp (by omega), pk_vb, fw_b8 (by omega)]
  · by_cases h12 : xk i = 12
    · refine br_t h12 ⟨fun z5 => ?_, fun z5 => BAD (Or.inr (Or.inl ⟨h12, z5⟩))⟩
      have hd0 : 0 < d := by
        rcases hz with ⟨e, _⟩ | ⟨_, e⟩
        · rw [e] at z5; exact absurd z5 (by decide)
        · exact e
      have G : (wX_structure_152 post (wX_structure_7 post (nI m) xln xrd xil cnt xml wr pc pos lim bby bl sm st tkn dep beg oc plc rch q) (nI i) (xk i) (nI m) xln xrd (nI d) xil cnt xml wr pc pos lim bby bl sm st tkn dep beg oc plc rch xk xf xs wh aa bb par ri rb rv oi os ot inp lst mad vr sav) := by
        refine br_t h12 ?_
        rw [fw_m1 hd0]
        refine And.intro (vp_in_nI (by omega) (by decide)) (nm_r (e' := upd oi (d - 1) (nI i)) ?_ (nm_r (nI_1 i) (H12 h12 z5)))
        rw [nI_clamp (by omega), pk_vb, fw_b8 (by omega)]
      rcases fw_nop ho with a | ⟨a, b⟩
      · exact br_t rfl (br_t a G)
      · exact br_t rfl (br_f a (br_t b G))
    · refine br_f h12 ?_
      by_cases h13 : xk i = 13
      · refine br_t h13 ?_
        rcases hz with ⟨e, e0⟩ | ⟨e, e0⟩
        · exact br_f (by rw [e]; decide) (BAD (Or.inr (Or.inr ⟨h13, e0⟩)))
        · have G : (wX_structure_152 post (wX_structure_7 post (nI m) xln xrd xil cnt xml wr pc pos lim bby bl sm st tkn dep beg oc plc rch q) (nI i) (xk i) (nI m) xln xrd (nI d) xil cnt xml wr pc pos lim bby bl sm st tkn dep beg oc plc rch xk xf xs wh aa bb par ri rb rv oi os ot inp lst mad vr sav) := br_f h12 (br_t h13 (nm_r (fw_m1 e0) (nm_r (nI_1 i) (H13 h13 e0))))
          rcases fw_nop ho with a | ⟨a, b⟩
          · exact br_t e (br_t rfl (br_t a G))
          · exact br_t e (br_t rfl (br_f a (br_t b G)))
      · have G : (wX_structure_152 post (wX_structure_7 post (nI m) xln xrd xil cnt xml wr pc pos lim bby bl sm st tkn dep beg oc plc rch q) (nI i) (xk i) (nI m) xln xrd (nI d) xil cnt xml wr pc pos lim bby bl sm st tkn dep beg oc plc rch xk xf xs wh aa bb par ri rb rv oi os ot inp lst mad vr sav) := br_f h12 (br_f h13 (nm_r (nI_1 i) (Hno ho h12 h13)))
        rcases fw_nop ho with a | ⟨a, b⟩
        · exact br_f h13 (br_t a (br_t rfl (br_t a G)))
        · exact br_f h13 (br_f a (br_t b (br_t rfl (br_f a (br_t b G)))))
theorem ys_item {post : Int32 → SY → Prop} {m i q d : Nat} (hm : m ≤ 40) (hi : i < m) (hd : d ≤ 4)
    (Hop : (yks i = 4 ∨ yks i = 5 ∨ yks i = 6) → d < 4 → (wY_loose_4 post (nI m) ysz yfd yls ymd ysa ytk ydp yps ybt yst yus ynx yra yrd q (nI (d + 1)) (nI (i + 1)) yks yas ybs yk yf ys yin yli you yva (upd yop d (yks i)) ynu yse yth))
    (H12 : yks i = 12 → 0 < d → yop (d - 1) = 5 → (wY_loose_4 post (nI m) ysz yfd yls ymd ysa ytk ydp yps ybt yst yus ynx yra yrd q (nI d) (nI (i + 1)) yks yas ybs yk yf ys yin yli you yva (upd yop (d - 1) 12) ynu yse yth))
    (H13 : yks i = 13 → 0 < d → (wY_loose_4 post (nI m) ysz yfd yls ymd ysa ytk ydp yps ybt yst yus ynx yra yrd q (nI (d - 1)) (nI (i + 1)) yks yas ybs yk yf ys yin yli you yva yop ynu yse yth))
    (Hno : ¬ (yks i = 4 ∨ yks i = 5 ∨ yks i = 6) → ¬ yks i = 12 → ¬ yks i = 13 → (wY_loose_4 post (nI m) ysz yfd yls ymd ysa ytk ydp yps ybt yst yus ynx yra yrd q (nI d) (nI (i + 1)) yks yas ybs yk yf ys yin yli you yva yop ynu yse yth))
    (Hbad : ((yks i = 4 ∨ yks i = 5 ∨ yks i = 6) ∧ d = 4) ∨ (yks i = 12 ∧ ¬ (0 < d ∧ yop (d - 1) = 5)) ∨ (yks i = 13 ∧ d = 0) → post (nI i) (nI m, ysz, yfd, yls, ymd, ysa, ytk, ydp, yps, ybt, yst, yus, ynx, yra, yrd, yks, yas, ybs, yk, yf, ys, yin, yli, you, yva, yop, ynu, yse, yth)) :
    (wY_loose_4 post (nI m) ysz yfd yls ymd ysa ytk ydp yps ybt yst yus ynx yra yrd (q + 1) (nI d) (nI i) yks yas ybs yk yf ys yin yli you yva yop ynu yse yth) := by
  refine br_f (nI_ge hi (by omega)) (And.intro (vp_in_nI (by omega) (by decide)) (nm_r (e' := yks i) (by rw [nI_clamp (by omega)]) ?_))
  by_cases ho : yks i = 4 ∨ yks i = 5 ∨ yks i = 6
  · obtain ⟨n12, n13, n4, n6, _⟩ := fw_o12 ho
    refine br_f n4 (br_f n6 (pk_eq d 4 (fun e => Hbad (Or.inl ⟨ho, e⟩)) (fun e => nm_r (nI_1 d) (And.intro (vp_in_nI (by omega) (by decide)) (nm_r (e' := upd yop d (yks i)) (by rw [nI_clamp (by omega)]) (br_f n12 (br_f n13 (nm_r (nI_1 i) (Hop ho (by omega))))))))))
  · have G : (wY_loose_47 post (wY_loose_4 post (nI m) ysz yfd yls ymd ysa ytk ydp yps ybt yst yus ynx yra yrd q) (nI d) (nI i) (yks i) (nI m) ysz yfd yls ymd ysa ytk ydp yps ybt yst yus ynx yra yrd yks yas ybs yk yf ys yin yli you yva yop ynu yse yth) := by
      by_cases h12 : yks i = 12
      · refine br_t h12 (pk_eq d 0 (fun e => Hbad (Or.inr (Or.inl ⟨h12, fun z => by omega⟩))) (fun e => ?_))
        have n13 : ¬ yks i = 13 := by rw [h12]; decide
        rw [fw_m1 (by omega), nI_clamp (by omega)]
        refine And.intro (vp_in_nI (by omega) (by decide)) ⟨fun z => And.intro (vp_in_nI (by omega) (by decide)) (nm_e (br_f n13 (nm_r (nI_1 i) (H12 h12 (by omega) z)))), fun z => Hbad (Or.inr (Or.inl ⟨h12, fun w => z w.2⟩))⟩
      · refine br_f h12 ?_
        by_cases h13 : yks i = 13
        · exact br_t h13 (pk_eq d 0 (fun e => Hbad (Or.inr (Or.inr ⟨h13, e⟩))) (fun e => nm_r (e' := nI (d - 1)) (sb_m1 (by omega)) (nm_r (nI_1 i) (H13 h13 (by omega)))))
        · exact br_f h13 (nm_r (nI_1 i) (Hno ho h12 h13))
    rcases fw_nop ho with a | ⟨a, b⟩
    · exact br_t a G
    · exact br_f a (br_t b G)
/-- both check the nesting -/
theorem jj_struct {m : Nat} (hm : m ≤ 40) : ∀ d i (oi yop : Nat → Int32), i + d = m → (fw_st xk i).length ≤ 4 → fw_AL oi (fw_st xk i) → fw_AK xk yop (fw_st xk i) → fw_wp xk i →
    ∃ (r : Int32) (xop' : Int32) (oi' yop' : Nat → Int32), ((r = -1 ∧ fw_wf xk m) ∨ ∃ j : Nat, j ≤ 40 ∧ r = nI j) ∧
      (∀ post : Int32 → SX → Prop, post r (nI m, xln, xrd, xop', xil, cnt, xml, wr, pc, pos, lim, bby, bl, sm, st, tkn, dep, beg, oc, plc, rch, xk, xf, xs, wh, aa, bb, par, ri, rb, rv, oi', os, ot, inp, lst, mad, vr, sav) → (wX_structure_7 post (nI m) xln xrd xil cnt xml wr pc pos lim bby bl sm st tkn dep beg oc plc rch (d + 1) (nI i) (nI (fw_st xk i).length) xk xf xs wh aa bb par ri rb rv oi os ot inp lst mad vr sav)) ∧
      (∀ post : Int32 → SY → Prop, post r (nI m, ysz, yfd, yls, ymd, ysa, ytk, ydp, yps, ybt, yst, yus, ynx, yra, yrd, xk, yas, ybs, yk, yf, ys, yin, yli, you, yva, yop', ynu, yse, yth) → (wY_loose_4 post (nI m) ysz yfd yls ymd ysa ytk ydp yps ybt yst yus ynx yra yrd (d + 1) (nI (fw_st xk i).length) (nI i) xk yas ybs yk yf ys yin yli you yva yop ynu yse yth)) := by
  intro d
  induction d with
  | zero =>
    intro i oi yop hi hl A AK w
    obtain rfl : i = m := by omega
    cases e : fw_st xk i with
    | nil =>
      refine ⟨-1, 0, oi, yop, Or.inl ⟨rfl, w.1, w.2.1, w.2.2, e⟩, fun post H => ?_, fun post H => ?_⟩
      · exact br_t (Int32.le_refl _) (br_t (by decide) H)
      · exact br_t (Int32.le_refl _) (br_t (by decide) H)
    | cons o t =>
      rw [e] at hl
      refine ⟨nI i, nI (o :: t).length, oi, yop, Or.inr ⟨i, hm, rfl⟩, fun post H => ?_, fun post H => ?_⟩
      · exact br_t (Int32.le_refl _) (br_f (nI_nle (by simp) (by omega)) H)
      · exact br_t (Int32.le_refl _) (br_f (nI_nle (by simp) (by omega)) H)
  | succ d ih =>
    intro i oi yop hi hl A AK w
    have him : i < m := by omega
    have hx : ∀ x, x ∈ fw_st xk i → x < 40 := fun x h => by have := (fw_st_lt i x h).1; omega
    have hz : (fw_top xk (fw_st xk i) = -1 ∧ (fw_st xk i).length = 0) ∨ (0 ≤ fw_top xk (fw_st xk i) ∧ 0 < (fw_st xk i).length) := by
      cases e : fw_st xk i with
      | nil => exact Or.inl ⟨rfl, rfl⟩
      | cons o t =>
        refine Or.inr ⟨?_, by simp⟩
        have := (fw_st_lt (K := xk) i o (by rw [e]; exact List.mem_cons_self)).2
        show 0 ≤ xk o
        rcases this with h | h | h | h <;> rw [h] <;> decide
    -- what is wrong
    have BAD : ((xk i = 4 ∨ xk i = 5 ∨ xk i = 6) ∧ (fw_st xk i).length = 4) ∨ (xk i = 12 ∧ ¬ fw_top xk (fw_st xk i) = 5) ∨ (xk i = 13 ∧ (fw_st xk i).length = 0) → ∃ (r : Int32) (xop' : Int32) (oi' yop' : Nat → Int32), ((r = -1 ∧ fw_wf xk m) ∨ ∃ j : Nat, j ≤ 40 ∧ r = nI j) ∧
      (∀ post : Int32 → SX → Prop, post r (nI m, xln, xrd, xop', xil, cnt, xml, wr, pc, pos, lim, bby, bl, sm, st, tkn, dep, beg, oc, plc, rch, xk, xf, xs, wh, aa, bb, par, ri, rb, rv, oi', os, ot, inp, lst, mad, vr, sav) → (wX_structure_7 post (nI m) xln xrd xil cnt xml wr pc pos lim bby bl sm st tkn dep beg oc plc rch (d + 1 + 1) (nI i) (nI (fw_st xk i).length) xk xf xs wh aa bb par ri rb rv oi os ot inp lst mad vr sav)) ∧
      (∀ post : Int32 → SY → Prop, post r (nI m, ysz, yfd, yls, ymd, ysa, ytk, ydp, yps, ybt, yst, yus, ynx, yra, yrd, xk, yas, ybs, yk, yf, ys, yin, yli, you, yva, yop', ynu, yse, yth) → (wY_loose_4 post (nI m) ysz yfd yls ymd ysa ytk ydp yps ybt yst yus ynx yra yrd (d + 1 + 1) (nI (fw_st xk i).length) (nI i) xk yas ybs yk yf ys yin yli you yva yop ynu yse yth)) := by
      intro bad
      refine ⟨nI i, nI (fw_st xk i).length, oi, yop, Or.inr ⟨i, by omega, rfl⟩, fun post H => ?_, fun post H => ?_⟩
      · refine xs_head hm him hl A hx (xs_49 (by omega) hl hz ?_ ?_ ?_ ?_ (fun _ => H))
        · intro ho h4
          rcases bad with ⟨_, b⟩ | ⟨b, _⟩ | ⟨b, _⟩
          · omega
          · exact absurd b (fw_o12 ho).1
          · exact absurd b (fw_o12 ho).2.1
        · intro h12 h5
          rcases bad with ⟨b, _⟩ | ⟨_, b⟩ | ⟨b, _⟩
          · exact absurd h12 (fw_o12 b).1
          · exact absurd h5 b
          · rw [h12] at b; exact absurd b (by decide)
        · intro h13 h0
          rcases bad with ⟨b, _⟩ | ⟨b, _⟩ | ⟨_, b⟩
          · exact absurd h13 (fw_o12 b).2.1
          · rw [h13] at b; exact absurd b (by decide)
          · omega
        · intro n1 n2 n3
          rcases bad with ⟨b, _⟩ | ⟨b, _⟩ | ⟨b, _⟩
          · exact absurd b n1
          · exact absurd b n2
          · exact absurd b n3
      · refine ys_item hm him hl ?_ ?_ ?_ ?_ (fun _ => H)
        · intro ho h4
          rcases bad with ⟨_, b⟩ | ⟨b, _⟩ | ⟨b, _⟩
          · omega
          · exact absurd b (fw_o12 ho).1
          · exact absurd b (fw_o12 ho).2.1
        · intro h12 h0 h5
          rcases bad with ⟨b, _⟩ | ⟨_, b⟩ | ⟨b, _⟩
          · exact absurd h12 (fw_o12 b).1
          · refine absurd ?_ b
            cases e : fw_st xk i with
            | nil => rw [e] at h0; simp at h0
            | cons o t =>
              rw [e] at AK h5
              rw [List.length_cons, Nat.add_sub_cancel, AK.1] at h5
              exact h5
          · rw [h12] at b; exact absurd b (by decide)
        · intro h13 h0
          rcases bad with ⟨b, _⟩ | ⟨b, _⟩ | ⟨_, b⟩
          · exact absurd h13 (fw_o12 b).2.1
          · rw [h13] at b; exact absurd b (by decide)
          · omega
        · intro n1 n2 n3
          rcases bad with ⟨b, _⟩ | ⟨b, _⟩ | ⟨b, _⟩
          · exact absurd b n1
          · exact absurd b n2
          · exact absurd b n3
    rcases fw_st_cases xk i with ⟨h, e⟩ | ⟨h, e⟩ | ⟨h, e⟩ | ⟨h, h2, h3, e⟩
    · obtain ⟨n12, n13, n4, n6, _⟩ := fw_o12 h
      by_cases hl4 : (fw_st xk i).length = 4
      · exact BAD (Or.inl ⟨h, hl4⟩)
      · obtain ⟨r, xop', oi', yop', a1, aX, aY⟩ := ih (i + 1) (upd oi (fw_st xk i).length (nI i)) (upd yop (fw_st xk i).length (xk i)) (by omega) (by rw [e, List.length_cons]; omega) (by rw [e]; exact ⟨pk_us, fw_AL_upd (Nat.le_refl _) A⟩) (by rw [e]; exact ⟨pk_us, fw_AK_upd (Nat.le_refl _) AK⟩) (fw_wp_s w (fun z => absurd z n12) (fun z => absurd z n13) (fun _ => by omega))
        rw [e, List.length_cons] at aX aY
        refine ⟨r, xop', oi', yop', a1, fun post H => xs_head hm him hl A hx (xs_49 (by omega) hl hz (fun _ _ => aX post H) (fun z => absurd z n12) (fun z => absurd z n13) (fun z => absurd h z) (fun z => ?_)), fun post H => ys_item hm him hl (fun _ _ => aY post H) (fun z => absurd z n12) (fun z => absurd z n13) (fun z => absurd h z) (fun z => ?_)⟩
        · rcases z with ⟨_, b⟩ | ⟨b, _⟩ | ⟨b, _⟩
          · exact absurd b hl4
          · exact absurd b n12
          · exact absurd b n13
        · rcases z with ⟨_, b⟩ | ⟨b, _⟩ | ⟨b, _⟩
          · exact absurd b hl4
          · exact absurd b n12
          · exact absurd b n13
    · have no : ¬ (xk i = 4 ∨ xk i = 5 ∨ xk i = 6) := by rw [h]; decide
      have n13 : ¬ xk i = 13 := by rw [h]; decide
      by_cases h5 : fw_top xk (fw_st xk i) = 5
      · cases q : fw_st xk i with
        | nil => rw [q] at h5; exact absurd (show (-1 : Int32) = 5 from h5) (by decide)
        | cons o t =>
          rw [q] at h5 e A AK hl hz hx
          rw [List.length_cons] at hl
          obtain ⟨r, xop', oi', yop', a1, aX, aY⟩ := ih (i + 1) (upd oi t.length (nI i)) (upd yop t.length 12) (by omega) (by rw [e]; exact hl) (by rw [e]; exact ⟨pk_us, fw_AL_upd (Nat.le_refl _) A.2⟩) (by rw [e]; exact ⟨by rw [h]; exact pk_us, fw_AK_upd (Nat.le_refl _) AK.2⟩) (fw_wp_s w (fun _ => ⟨o, t, q, h5⟩) (fun z => absurd z n13) (fun z => absurd z no))
          rw [e] at aX aY
          refine ⟨r, xop', oi', yop', a1, fun post H => xs_head hm him hl A hx (xs_49 (by omega) hl hz (fun z => absurd z no) (fun _ _ => aX post H) (fun z => absurd z n13) (fun _ z => absurd h z) (fun z => ?_)), fun post H => ys_item hm him hl (fun z => absurd z no) (fun _ _ _ => aY post H) (fun z => absurd z n13) (fun _ z => absurd h z) (fun z => ?_)⟩
          · rcases z with ⟨b, _⟩ | ⟨_, b⟩ | ⟨b, _⟩
            · exact absurd b no
            · exact absurd h5 b
            · exact absurd b n13
          · rcases z with ⟨b, _⟩ | ⟨_, b⟩ | ⟨b, _⟩
            · exact absurd b no
            · refine absurd ⟨by simp, ?_⟩ b
              rw [List.length_cons, Nat.add_sub_cancel, AK.1]; exact h5
            · exact absurd b n13
      · exact BAD (Or.inr (Or.inl ⟨h, h5⟩))
    · have no : ¬ (xk i = 4 ∨ xk i = 5 ∨ xk i = 6) := by rw [h]; decide
      have n12 : ¬ xk i = 12 := by rw [h]; decide
      cases q : fw_st xk i with
      | nil =>
        have := BAD (Or.inr (Or.inr ⟨h, by rw [q]; rfl⟩))
        rw [q] at this
        exact this
      | cons o t =>
        rw [q] at e A AK hl hz hx
        rw [List.length_cons] at hl
        obtain ⟨r, xop', oi', yop', a1, aX, aY⟩ := ih (i + 1) oi yop (by omega) (by rw [e]; show t.length ≤ 4; omega) (by rw [e]; exact A.2) (by rw [e]; exact AK.2) (fw_wp_s w (fun z => absurd z n12) (fun _ => ⟨o, t, q⟩) (fun z => absurd z no))
        rw [e] at aX aY
        refine ⟨r, xop', oi', yop', a1, fun post H => xs_head hm him hl A hx (xs_49 (by omega) hl hz (fun z => absurd z no) (fun z => absurd z n12) (fun _ _ => aX post H) (fun _ _ z => absurd h z) (fun z => ?_)), fun post H => ys_item hm him hl (fun z => absurd z no) (fun z => absurd z n12) (fun _ _ => aY post H) (fun _ _ z => absurd h z) (fun z => ?_)⟩
        · rcases z with ⟨b, _⟩ | ⟨b, _⟩ | ⟨_, b⟩
          · exact absurd b no
          · exact absurd b n12
          · simp at b
        · rcases z with ⟨b, _⟩ | ⟨b, _⟩ | ⟨_, b⟩
          · exact absurd b no
          · exact absurd b n12
          · simp at b
    · obtain ⟨r, xop', oi', yop', a1, aX, aY⟩ := ih (i + 1) oi yop (by omega) (by rw [e]; exact hl) (by rw [e]; exact A) (by rw [e]; exact AK) (fw_wp_s w (fun z => absurd z h2) (fun z => absurd z h3) (fun z => absurd z h))
      rw [e] at aX aY
      refine ⟨r, xop', oi', yop', a1, fun post H => xs_head hm him hl A hx (xs_49 (by omega) hl hz (fun z => absurd z h) (fun z => absurd z h2) (fun z => absurd z h3) (fun _ _ _ => aX post H) (fun z => ?_)), fun post H => ys_item hm him hl (fun z => absurd z h) (fun z => absurd z h2) (fun z => absurd z h3) (fun _ _ _ => aY post H) (fun z => ?_)⟩
      · rcases z with ⟨b, _⟩ | ⟨b, _⟩ | ⟨b, _⟩
        · exact absurd b h
        · exact absurd b h2
        · exact absurd b h3
      · rcases z with ⟨b, _⟩ | ⟨b, _⟩ | ⟨b, _⟩
        · exact absurd b h
        · exact absurd b h2
        · exact absurd b h3
end
section
/-! the check of the variables -/
variable {xit xln xrd xop xil cnt xml wr pc pos lim bby bl sm st tkn dep beg oc plc rch : Int32} {xk xf xs wh aa bb par ri rb rv oi os ot inp lst mad vr sav : Nat → Int32} {yit ysz yfd yls ymd ysa ytk ydp yps ybt yst yus ynx yra yrd : Int32} {yks yas ybs yk yf ys yin yli you yva yop ynu yse yth : Nat → Int32}
abbrev fw_sub (a b : Int32) : Prop := a &&& b = a
theorem fw_sub_b {a b : Int32} : fw_sub a b ↔ ∀ i, i < 32 → bt a i = true → bt b i = true := by
  constructor
  · intro h i hi ha
    have := congrArg (fun x => bt x i) h
    simp only [b_and, ha, Bool.true_and] at this
    exact this
  · intro h
    refine b_ext (fun i hi => ?_)
    rw [b_and]
    cases q : bt a i with
    | false => rfl
    | true => rw [h i hi q]; rfl
theorem fw_sub_refl (a : Int32) : fw_sub a a := fw_sub_b.mpr (fun _ _ h => h)
theorem fw_sub_tr {a b c : Int32} (h : fw_sub a b) (g : fw_sub b c) : fw_sub a c := fw_sub_b.mpr (fun i hi q => fw_sub_b.mp g i hi (fw_sub_b.mp h i hi q))
theorem fw_sub_or {a b : Int32} (c : Int32) (h : fw_sub a b) : fw_sub a (b ||| c) := fw_sub_b.mpr (fun i hi q => by rw [b_or, fw_sub_b.mp h i hi q, Bool.true_or])
theorem fw_or_sub {a b c : Int32} (h : fw_sub a c) (g : fw_sub b c) : fw_sub (a ||| b) c := fw_sub_b.mpr (fun i hi q => by
  rw [b_or, Bool.or_eq_true] at q
  rcases q with q | q
  · exact fw_sub_b.mp h i hi q
  · exact fw_sub_b.mp g i hi q)
theorem fw_sub_and {a b c : Int32} (h : fw_sub a b) (g : fw_sub a c) : fw_sub a (b &&& c) := fw_sub_b.mpr (fun i hi q => by rw [b_and, fw_sub_b.mp h i hi q, fw_sub_b.mp g i hi q]; rfl)
theorem fw_and_sub {a c : Int32} (b : Int32) (h : fw_sub a c) : fw_sub (a &&& b) c := fw_sub_b.mpr (fun i hi q => by
  rw [b_and, Bool.and_eq_true] at q
  exact fw_sub_b.mp h i hi q.1)
theorem fw_and_eq {a b : Int32} (h : fw_sub a b) : b &&& a = a := b_ext (fun i hi => by
  rw [b_and]
  cases q : bt a i with
  | false => rw [Bool.and_false]
  | true => rw [fw_sub_b.mp h i hi q]; rfl)
theorem fw_s16 {a : Int32} (h : fw_sub a 255) : a.toInt16.toInt32 = a := by
  have T : ∀ w, w < 256 → (nI w).toInt16.toInt32 = nI w := by decide +kernel
  obtain ⟨w, hw, e⟩ := fw_byte a
  rw [h] at e
  rw [e]; exact T w hw
/-- the bit of a variable -/
def fw_bit (v : Nat) : Int32 := (1 : Int32) <<< (nI v &&& 31)
theorem fw_bit255 {v : Nat} (h : v < 8) : fw_sub (fw_bit v) 255 := by
  have T : ∀ v, v < 8 → fw_bit v &&& 255 = fw_bit v := by decide +kernel
  exact T v h
theorem fw_bt1 (i : Nat) : bt 1 i = decide (i = 0) := by
  by_cases h : i < 32
  · revert i; decide +kernel
  · rw [b_big (by omega), decide_eq_false (by omega)]
theorem fw_btb {v i : Nat} (h : v < 8) (hi : i < 32) : bt (fw_bit v) i = decide (i = v) := by
  rw [fw_bit, b_shl v (by omega) _ hi, fw_bt1]
  by_cases e : i = v
  · subst e; simp
  · rw [decide_eq_false e]
    by_cases g : v ≤ i
    · rw [decide_eq_true g, decide_eq_false (by omega : ¬ i - v = 0)]; rfl
    · rw [decide_eq_false g]; rfl
theorem fw_bitx {a : Int32} {v : Nat} (h : v < 8) : a &&& fw_bit v = 0 ↔ bt a v = false := by
  constructor
  · intro e
    have := congrArg (fun x => bt x v) e
    simp only [b_and, fw_btb h (by omega : v < 32), b_0] at this
    simpa using this
  · intro e
    refine b_ext (fun i hi => ?_)
    rw [b_and, b_0, fw_btb h hi]
    by_cases g : i = v
    · rw [g, e]; rfl
    · rw [decide_eq_false g, Bool.and_false]
theorem fw_bity {a : Int32} {v : Nat} (h : v < 8) : (a >>> (nI v &&& 31)) &&& 1 = 0 ↔ bt a v = false := by
  constructor
  · intro e
    have := congrArg (fun x => bt x 0) e
    simp only [b_and, b_0] at this
    rw [b_sshr v (by omega) a (by omega), if_pos (by omega), Nat.add_zero, fw_bt1] at this
    simpa using this
  · intro e
    refine b_ext (fun i hi => ?_)
    rw [b_and, b_0, fw_bt1]
    by_cases g : i = 0
    · rw [g, b_sshr v (by omega) a (by omega), if_pos (by omega), Nat.add_zero, e]; rfl
    · rw [decide_eq_false g, Bool.and_false]
theorem fw_bitor {a : Int32} {v : Nat} (h : v < 8) (hb : ¬ bt a v = false) : a ||| fw_bit v = a := by
  refine b_ext (fun i hi => ?_)
  rw [b_or, fw_btb h hi]
  by_cases g : i = v
  · subst g
    cases q : bt a i with
    | false => exact absurd q hb
    | true => rfl
  · rw [decide_eq_false g, Bool.or_false]
/-- the sets of both, an item at a time -/
def fw_US (K oi os ot yop yse yth : Nat → Int32) : Int32 → List Nat → Prop
  | a, [] => fw_sub a 255
  | a, x :: t => fw_sub a 255 ∧ fw_sub (yse t.length) a ∧ oi t.length = K x ∧ yop t.length = K x ∧ os t.length = yse t.length ∧ (K x = 12 → ot t.length = yth t.length ∧ fw_sub (yse t.length) (yth t.length)) ∧ (K x = 4 → ot t.length = yse t.length) ∧ fw_US K oi os ot yop yse yth (yse t.length) t
theorem fw_US_255 {K oi os ot yop yse yth : Nat → Int32} {a : Int32} : ∀ {l : List Nat}, fw_US K oi os ot yop yse yth a l → fw_sub a 255
  | [], h => h
  | _ :: _, h => h.1
theorem fw_US_mono {K oi os ot yop yse yth : Nat → Int32} {a b : Int32} (h : fw_sub a b) (hb : fw_sub b 255) : ∀ {l : List Nat}, fw_US K oi os ot yop yse yth a l → fw_US K oi os ot yop yse yth b l
  | [], _ => hb
  | _ :: _, g => ⟨hb, fw_sub_tr g.2.1 h, g.2.2⟩
theorem fw_US_frame {K oi os ot yop yse yth oi' os' ot' yop' yse' yth' : Nat → Int32} : ∀ {a : Int32} {l : List Nat}, (∀ d, d < l.length → oi' d = oi d ∧ os' d = os d ∧ ot' d = ot d ∧ yop' d = yop d ∧ yse' d = yse d ∧ yth' d = yth d) → fw_US K oi os ot yop yse yth a l → fw_US K oi' os' ot' yop' yse' yth' a l
  | _, [], _, g => g
  | a, x :: t, h, g => by
    obtain ⟨e1, e2, e3, e4, e5, e6⟩ := h t.length (by simp)
    obtain ⟨g1, g2, g3, g4, g5, g6, g7, g8⟩ := g
    refine ⟨g1, by rw [e5]; exact g2, by rw [e1]; exact g3, by rw [e4]; exact g4, by rw [e2, e5]; exact g5, ?_, ?_, ?_⟩
    · intro z; rw [e3, e5, e6]; exact g6 z
    · intro z; rw [e3, e5]; exact g7 z
    · rw [e5]
      exact fw_US_frame (fun d hd => h d (by simp; omega)) g8
def fw_rd (k : Int32) : Prop := (k = 4 ∨ k = 5 ∨ k = 6) ∨ k = 9 ∨ k = 11
theorem xu_a {post : Int32 → SX → Prop} {m i q v : Nat} {a : Int32} (hm : m ≤ 40) (hi : i < m) (ev : xs i &&& 7 = nI v)
    (Hbad : fw_rd (xk i) → a &&& fw_bit v = 0 → post (nI i) (nI m, xln, xrd, xop, xil, cnt, xml, wr, pc, pos, lim, bby, bl, sm, st, tkn, dep, beg, oc, plc, rch, xk, xf, xs, wh, aa, bb, par, ri, rb, rv, oi, os, ot, inp, lst, mad, vr, sav))
    (H : (fw_rd (xk i) → ¬ a &&& fw_bit v = 0) → (wX_unset_81 post (wX_unset_9 post (nI m) xln xrd xil cnt xml wr pc pos lim bby bl sm st tkn dep beg oc plc rch q) a (nI i) (xk i) (fw_bit v) (nI m) xln xrd xop xil cnt xml wr pc pos lim bby bl sm st tkn dep beg oc plc rch xk xf xs wh aa bb par ri rb rv oi os ot inp lst mad vr sav)) : (wX_unset_9 post (nI m) xln xrd xil cnt xml wr pc pos lim bby bl sm st tkn dep beg oc plc rch (q + 1) a (nI i) xop xk xf xs wh aa bb par ri rb rv oi os ot inp lst mad vr sav) := by
  have hv : vp_in (nI i) 40 := vp_in_nI (by omega) (by decide)
  have ci : (nI i).toNatClampNeg = i := nI_clamp (by omega)
  have G1 : fw_rd (xk i) → (wX_unset_60 post (wX_unset_9 post (nI m) xln xrd xil cnt xml wr pc pos lim bby bl sm st tkn dep beg oc plc rch q) a (nI i) (xk i) (fw_bit v) (nI m) xln xrd xop xil cnt xml wr pc pos lim bby bl sm st tkn dep beg oc plc rch xk xf xs wh aa bb par ri rb rv oi os ot inp lst mad vr sav) := fun h => br_f (by decide) ⟨fun z => Hbad h z, fun z => H (fun _ => z)⟩
  have G0 : ¬ (xk i = 4 ∨ xk i = 5 ∨ xk i = 6) → (wX_unset_48 post (wX_unset_9 post (nI m) xln xrd xil cnt xml wr pc pos lim bby bl sm st tkn dep beg oc plc rch q) a (nI i) (xk i) (fw_bit v) (nI m) xln xrd xop xil cnt xml wr pc pos lim bby bl sm st tkn dep beg oc plc rch xk xf xs wh aa bb par ri rb rv oi os ot inp lst mad vr sav) := by
    intro h
    refine ⟨fun z => G1 (Or.inr (Or.inl z)), fun z => ⟨fun z2 => G1 (Or.inr (Or.inr z2)), fun z2 => br_t rfl (H (fun w => ?_))⟩⟩
    rcases w with w | w | w
    · exact absurd w h
    · exact absurd w z
    · exact absurd w z2
  refine br_f (nI_ge hi (by omega)) (And.intro hv (nm_r (e' := xk i) (by rw [ci]) (And.intro hv (nm_r (e' := fw_bit v) (by rw [ci, ev]; rfl) ?_))))
  by_cases ho : xk i = 4 ∨ xk i = 5 ∨ xk i = 6
  · obtain ⟨_, _, n4, _, l6, _⟩ := fw_o12 ho
    exact br_f n4 (br_t l6 (G1 (Or.inl ho)))
  · rcases fw_nop ho with z | ⟨z, z2⟩
    · exact br_t z (G0 ho)
    · exact br_f z (br_f (Int32.not_le.mpr z2) (G0 ho))
def fw_se (k a : Int32) (v : Nat) : Int32 := if k < 3 ∨ k = 10 then a ||| fw_bit v else a
theorem xu_81 {post : Int32 → SX → Prop} {m i q v : Nat} {a : Int32} (H : (wX_unset_97 post (wX_unset_9 post (nI m) xln xrd xil cnt xml wr pc pos lim bby bl sm st tkn dep beg oc plc rch q) (fw_se (xk i) a v) (nI i) (xk i) (nI m) xln xrd xop xil cnt xml wr pc pos lim bby bl sm st tkn dep beg oc plc rch xk xf xs wh aa bb par ri rb rv oi os ot inp lst mad vr sav)) : (wX_unset_81 post (wX_unset_9 post (nI m) xln xrd xil cnt xml wr pc pos lim bby bl sm st tkn dep beg oc plc rch q) a (nI i) (xk i) (fw_bit v) (nI m) xln xrd xop xil cnt xml wr pc pos lim bby bl sm st tkn dep beg oc plc rch xk xf xs wh aa bb par ri rb rv oi os ot inp lst mad vr sav) := by
  refine ⟨fun z => nm_r (e' := fw_se (xk i) a v) (if_pos (Or.inl z)).symm H, fun z => ⟨fun z2 => nm_r (e' := fw_se (xk i) a v) (if_pos (Or.inr z2)).symm H, fun z2 => ?_⟩⟩
  have e : fw_se (xk i) a v = a := if_neg (fun w => w.elim z z2)
  rw [e] at H
  exact H
theorem xu_97 {post : Int32 → SX → Prop} {m i q d : Nat} {a : Int32} (hi : i < 40) (hd : d ≤ 4) (ha : fw_sub a 255) (hk8 : (xk i).toInt8.toInt32 = xk i)
    (Hop : (xk i = 4 ∨ xk i = 5 ∨ xk i = 6) → d < 4 ∧ (wX_unset_9 post (nI m) xln xrd xil cnt xml wr pc pos lim bby bl sm st tkn dep beg oc plc rch q a (nI (i + 1)) (nI (d + 1)) xk xf xs wh aa bb par ri rb rv (upd oi d (xk i)) (upd os d a) (upd ot d (if xk i = 4 then a else -1)) inp lst mad vr sav))
    (H12 : xk i = 12 → 0 < d ∧ (wX_unset_9 post (nI m) xln xrd xil cnt xml wr pc pos lim bby bl sm st tkn dep beg oc plc rch q (os (d - 1)) (nI (i + 1)) (nI d) xk xf xs wh aa bb par ri rb rv (upd oi (d - 1) 12) os (upd ot (d - 1) a) inp lst mad vr sav))
    (H13 : xk i = 13 → 0 < d ∧ ∀ b, b = (if oi (d - 1) = 5 then os (d - 1) else if oi (d - 1) = 6 then a else a &&& ot (d - 1)) → (wX_unset_9 post (nI m) xln xrd xil cnt xml wr pc pos lim bby bl sm st tkn dep beg oc plc rch q b (nI (i + 1)) (nI (d - 1)) xk xf xs wh aa bb par ri rb rv oi os ot inp lst mad vr sav))
    (Hno : ¬ (xk i = 4 ∨ xk i = 5 ∨ xk i = 6) → ¬ xk i = 12 → ¬ xk i = 13 → (wX_unset_9 post (nI m) xln xrd xil cnt xml wr pc pos lim bby bl sm st tkn dep beg oc plc rch q a (nI (i + 1)) (nI d) xk xf xs wh aa bb par ri rb rv oi os ot inp lst mad vr sav)) :
    (wX_unset_97 post (wX_unset_9 post (nI m) xln xrd xil cnt xml wr pc pos lim bby bl sm st tkn dep beg oc plc rch q) a (nI i) (xk i) (nI m) xln xrd (nI d) xil cnt xml wr pc pos lim bby bl sm st tkn dep beg oc plc rch xk xf xs wh aa bb par ri rb rv oi os ot inp lst mad vr sav) := by
  have cd : (nI d).toNatClampNeg = d := nI_clamp (by omega)
  by_cases ho : xk i = 4 ∨ xk i = 5 ∨ xk i = 6
  · obtain ⟨_, _, n4, n6, _⟩ := fw_o12 ho
    obtain ⟨hd4, H⟩ := Hop ho
    have hv : vp_in (nI d) 4 := vp_in_nI (by omega) (by decide)
    refine br_f n4 (br_f n6 (And.intro hv (nm_r (e' := upd oi d (xk i)) (by rw [cd, pk_vb, hk8]) (And.intro hv (nm_r (e' := upd os d a) (by rw [cd, pk_vs, fw_s16 ha]) (nm_r (nI_1 d) ⟨fun z => And.intro hv (nm_r (e' := upd ot d (if xk i = 4 then a else -1)) (by rw [cd, pk_vs, fw_s16 ha, if_pos z]) (nm_r (nI_1 i) H)), fun z => And.intro hv (nm_r (e' := upd ot d (if xk i = 4 then a else -1)) ?_ (nm_r (nI_1 i) H))⟩))))))
    rw [cd, pk_vs, if_neg z]
    rfl
  · have G : (wX_unset_160 post (wX_unset_9 post (nI m) xln xrd xil cnt xml wr pc pos lim bby bl sm st tkn dep beg oc plc rch q) a (nI i) (xk i) (nI m) xln xrd (nI d) xil cnt xml wr pc pos lim bby bl sm st tkn dep beg oc plc rch xk xf xs wh aa bb par ri rb rv oi os ot inp lst mad vr sav) := by
      by_cases h12 : xk i = 12
      · obtain ⟨hd0, H⟩ := H12 h12
        have hv : vp_in (nI (d - 1)) 4 := vp_in_nI (by omega) (by decide)
        have cd1 : (nI (d - 1)).toNatClampNeg = d - 1 := nI_clamp (by omega)
        refine br_t h12 ?_
        rw [fw_m1 hd0, cd1]
        refine And.intro hv (nm_r (e' := upd ot (d - 1) a) (by rw [pk_vs, fw_s16 ha]) (And.intro hv (nm_e (And.intro hv (nm_r (e' := upd oi (d - 1) 12) (by rw [vp_nar_byte]; rfl) (nm_r (nI_1 i) H))))))
      · refine br_f h12 ?_
        by_cases h13 : xk i = 13
        · obtain ⟨hd0, H⟩ := H13 h13
          have hv : vp_in (nI (d - 1)) 4 := vp_in_nI (by omega) (by decide)
          have cd1 : (nI (d - 1)).toNatClampNeg = d - 1 := nI_clamp (by omega)
          refine br_t h13 (nm_r (fw_m1 hd0) ?_)
          rw [cd1]
          refine And.intro hv (nm_e ⟨fun z => And.intro hv (nm_e (nm_r (nI_1 i) (H _ (if_pos z).symm))), fun z => ⟨fun z2 => nm_r (nI_1 i) (H _ ?_), fun z2 => And.intro hv (nm_e (nm_r (nI_1 i) (H _ ?_)))⟩⟩)
          · rw [if_neg z, if_pos z2]
          · rw [if_neg z, if_neg z2]
        · exact br_f h13 (nm_r (nI_1 i) (Hno ho h12 h13))
    rcases fw_nop ho with z | ⟨z, z2⟩
    · exact br_t z G
    · exact br_f z (br_t z2 G)
theorem yu_a {post : Int32 → SY → Prop} {m i q v : Nat} {a n : Int32} (hm : m ≤ 40) (hi : i < m) (ev : ybs i &&& 7 = nI v)
    (Hbad : fw_rd (yks i) → (a >>> (nI v &&& 31)) &&& 1 = 0 → post (nI i) (nI m, ysz, yfd, yls, ymd, ysa, ytk, ydp, yps, ybt, yst, yus, ynx, yra, yrd, yks, yas, ybs, yk, yf, ys, yin, yli, you, yva, yop, ynu, yse, yth))
    (H : (fw_rd (yks i) → ¬ (a >>> (nI v &&& 31)) &&& 1 = 0) → (wY_unset_83 post (wY_unset_6 post (nI m) ysz yfd yls ymd ysa ytk ydp yps ybt yst yus ynx yra yrd q) a n (nI i) (yks i) (nI v) (nI m) ysz yfd yls ymd ysa ytk ydp yps ybt yst yus ynx yra yrd yks yas ybs yk yf ys yin yli you yva yop ynu yse yth)) : (wY_unset_6 post (nI m) ysz yfd yls ymd ysa ytk ydp yps ybt yst yus ynx yra yrd (q + 1) a n (nI i) yks yas ybs yk yf ys yin yli you yva yop ynu yse yth) := by
  have hv : vp_in (nI i) 40 := vp_in_nI (by omega) (by decide)
  have ci : (nI i).toNatClampNeg = i := nI_clamp (by omega)
  have G1 : fw_rd (yks i) → (wY_unset_60 post (wY_unset_6 post (nI m) ysz yfd yls ymd ysa ytk ydp yps ybt yst yus ynx yra yrd q) a n (nI i) (yks i) (nI v) (nI m) ysz yfd yls ymd ysa ytk ydp yps ybt yst yus ynx yra yrd yks yas ybs yk yf ys yin yli you yva yop ynu yse yth) := fun h => br_f (by decide) ⟨fun z => Hbad h z, fun z => H (fun _ => z)⟩
  have G0 : ¬ (yks i = 4 ∨ yks i = 5 ∨ yks i = 6) → (wY_unset_46 post (wY_unset_6 post (nI m) ysz yfd yls ymd ysa ytk ydp yps ybt yst yus ynx yra yrd q) a n (nI i) (yks i) (nI v) (nI m) ysz yfd yls ymd ysa ytk ydp yps ybt yst yus ynx yra yrd yks yas ybs yk yf ys yin yli you yva yop ynu yse yth) := by
    intro h
    refine ⟨fun z => G1 (Or.inr (Or.inl z)), fun z => ⟨fun z2 => G1 (Or.inr (Or.inr z2)), fun z2 => br_t rfl (H (fun w => ?_))⟩⟩
    rcases w with w | w | w
    · exact absurd w h
    · exact absurd w z
    · exact absurd w z2
  refine br_f (nI_ge hi (by omega)) (And.intro hv (nm_r (e' := yks i) (by rw [ci]) (And.intro hv (nm_r (e' := nI v) (by rw [ci, ev]) ?_))))
  by_cases ho : yks i = 4 ∨ yks i = 5 ∨ yks i = 6
  · obtain ⟨_, _, n4, _, l6, _⟩ := fw_o12 ho
    exact br_f n4 (br_t l6 (G1 (Or.inl ho)))
  · rcases fw_nop ho with z | ⟨z, z2⟩
    · exact br_t z (G0 ho)
    · exact br_f z (br_f (Int32.not_le.mpr z2) (G0 ho))
theorem yu_83 {post : Int32 → SY → Prop} {m i q v : Nat} {a n : Int32} (h11 : yks i = 11 → a ||| fw_bit v = a) (H : (wY_unset_110 post (wY_unset_6 post (nI m) ysz yfd yls ymd ysa ytk ydp yps ybt yst yus ynx yra yrd q) (fw_se (yks i) a v) n (nI i) (yks i) (nI m) ysz yfd yls ymd ysa ytk ydp yps ybt yst yus ynx yra yrd yks yas ybs yk yf ys yin yli you yva yop ynu yse yth)) : (wY_unset_83 post (wY_unset_6 post (nI m) ysz yfd yls ymd ysa ytk ydp yps ybt yst yus ynx yra yrd q) a n (nI i) (yks i) (nI v) (nI m) ysz yfd yls ymd ysa ytk ydp yps ybt yst yus ynx yra yrd yks yas ybs yk yf ys yin yli you yva yop ynu yse yth) := by
  refine ⟨fun z => nm_r (e' := fw_se (yks i) a v) (if_pos (Or.inl z)).symm H, fun z => ⟨fun z2 => nm_r (e' := fw_se (yks i) a v) (if_pos (Or.inr z2)).symm H, fun z2 => ?_⟩⟩
  have e : fw_se (yks i) a v = a := if_neg (fun w => w.elim z z2)
  rw [e] at H
  exact ⟨fun z3 => nm_r (e' := a) (h11 z3) H, fun z3 => H⟩
theorem yu_110 {post : Int32 → SY → Prop} {m i q d : Nat} {a : Int32} (hi : i < 40) (hd : d ≤ 4)
    (Hop : (yks i = 4 ∨ yks i = 5 ∨ yks i = 6) → (wY_unset_6 post (nI m) ysz yfd yls ymd ysa ytk ydp yps ybt yst yus ynx yra yrd q a (nI (d + 1)) (nI (i + 1)) yks yas ybs yk yf ys yin yli you yva (upd yop d (yks i)) ynu (upd yse d a) yth))
    (H12 : yks i = 12 → 0 < d ∧ (wY_unset_6 post (nI m) ysz yfd yls ymd ysa ytk ydp yps ybt yst yus ynx yra yrd q (yse (d - 1)) (nI d) (nI (i + 1)) yks yas ybs yk yf ys yin yli you yva (upd yop (d - 1) 12) ynu yse (upd yth (d - 1) a)))
    (H13 : yks i = 13 → 0 < d ∧ ∀ b, b = (if yop (d - 1) = 12 then a &&& yth (d - 1) else if yop (d - 1) = 6 then a else yse (d - 1)) → (wY_unset_6 post (nI m) ysz yfd yls ymd ysa ytk ydp yps ybt yst yus ynx yra yrd q b (nI (d - 1)) (nI (i + 1)) yks yas ybs yk yf ys yin yli you yva yop ynu yse yth))
    (Hno : ¬ (yks i = 4 ∨ yks i = 5 ∨ yks i = 6) → ¬ yks i = 12 → ¬ yks i = 13 → (wY_unset_6 post (nI m) ysz yfd yls ymd ysa ytk ydp yps ybt yst yus ynx yra yrd q a (nI d) (nI (i + 1)) yks yas ybs yk yf ys yin yli you yva yop ynu yse yth)) :
    (wY_unset_110 post (wY_unset_6 post (nI m) ysz yfd yls ymd ysa ytk ydp yps ybt yst yus ynx yra yrd q) a (nI d) (nI i) (yks i) (nI m) ysz yfd yls ymd ysa ytk ydp yps ybt yst yus ynx yra yrd yks yas ybs yk yf ys yin yli you yva yop ynu yse yth) := by
  have cd : (nI d).toNatClampNeg = d := nI_clamp (by omega)
  by_cases ho : yks i = 4 ∨ yks i = 5 ∨ yks i = 6
  · obtain ⟨n12, n13, n4, n6, _⟩ := fw_o12 ho
    have hv : vp_in (nI d) 5 := vp_in_nI (by omega) (by decide)
    exact br_f n4 (br_f n6 (And.intro hv (nm_r (e' := upd yop d (yks i)) (by rw [cd]) (nm_r (nI_1 d) (And.intro hv (nm_r (e' := upd yse d a) (by rw [cd]) (br_f n12 (br_f n13 (nm_r (nI_1 i) (Hop ho))))))))))
  · have G : (wY_unset_141 post (wY_unset_6 post (nI m) ysz yfd yls ymd ysa ytk ydp yps ybt yst yus ynx yra yrd q) a (nI d) (nI i) (yks i) (nI m) ysz yfd yls ymd ysa ytk ydp yps ybt yst yus ynx yra yrd yks yas ybs yk yf ys yin yli you yva yop ynu yse yth) := by
      by_cases h12 : yks i = 12
      · obtain ⟨hd0, H⟩ := H12 h12
        have hv : vp_in (nI (d - 1)) 5 := vp_in_nI (by omega) (by decide)
        have cd1 : (nI (d - 1)).toNatClampNeg = d - 1 := nI_clamp (by omega)
        have n13 : ¬ yks i = 13 := by rw [h12]; decide
        refine br_t h12 ?_
        rw [fw_m1 hd0, cd1]
        exact And.intro hv (nm_e (And.intro hv (nm_e (And.intro hv (nm_e (br_f n13 (nm_r (nI_1 i) H)))))))
      · refine br_f h12 ?_
        by_cases h13 : yks i = 13
        · obtain ⟨hd0, H⟩ := H13 h13
          have hv : vp_in (nI (d - 1)) 5 := vp_in_nI (by omega) (by decide)
          have cd1 : (nI (d - 1)).toNatClampNeg = d - 1 := nI_clamp (by omega)
          refine br_t h13 (nm_r (e' := nI (d - 1)) (sb_m1 hd0) ?_)
          rw [cd1]
          refine And.intro hv ⟨fun z => And.intro hv (nm_e (nm_r (nI_1 i) (H _ (if_pos z).symm))), fun z => And.intro hv ⟨fun z2 => nm_r (nI_1 i) (H _ ?_), fun z2 => And.intro hv (nm_e (nm_r (nI_1 i) (H _ ?_)))⟩⟩
          · rw [if_neg z, if_pos z2]
          · rw [if_neg z, if_neg z2]
        · exact br_f h13 (nm_r (nI_1 i) (Hno ho h12 h13))
    rcases fw_nop ho with z | ⟨z, z2⟩
    · exact br_t z G
    · exact br_f z (br_t z2 G)
/-- both check the variables -/
theorem jj_unset {m : Nat} (hm : m ≤ 40) (w : fw_wf xk m) (hF : ∀ j, j < m → fw_FV (xk j) (xf j)) : ∀ d i (a : Int32) (oi os ot yop yse yth : Nat → Int32), i + d = m → fw_US xk oi os ot yop yse yth a (fw_st xk i) →
    ∃ (r : Int32) (xop' : Int32) (oi' os' ot' yop' yse' yth' : Nat → Int32), (r = -1 ∨ ∃ j : Nat, j ≤ 40 ∧ r = nI j) ∧
      (∀ post : Int32 → SX → Prop, post r (nI m, xln, xrd, xop', xil, cnt, xml, wr, pc, pos, lim, bby, bl, sm, st, tkn, dep, beg, oc, plc, rch, xk, xf, xs, wh, aa, bb, par, ri, rb, rv, oi', os', ot', inp, lst, mad, vr, sav) → (wX_unset_9 post (nI m) xln xrd xil cnt xml wr pc pos lim bby bl sm st tkn dep beg oc plc rch (d + 1) a (nI i) (nI (fw_st xk i).length) xk xf xs wh aa bb par ri rb rv oi os ot inp lst mad vr sav)) ∧
      (∀ post : Int32 → SY → Prop, post r (nI m, ysz, yfd, yls, ymd, ysa, ytk, ydp, yps, ybt, yst, yus, ynx, yra, yrd, xk, yas, xs, yk, yf, ys, yin, yli, you, yva, yop', ynu, yse', yth') → (wY_unset_6 post (nI m) ysz yfd yls ymd ysa ytk ydp yps ybt yst yus ynx yra yrd (d + 1) a (nI (fw_st xk i).length) (nI i) xk yas xs yk yf ys yin yli you yva yop ynu yse yth)) := by
  intro d
  induction d with
  | zero =>
    intro i a oi os ot yop yse yth hi U
    obtain rfl : i = m := by omega
    exact ⟨-1, _, oi, os, ot, yop, yse, yth, Or.inl rfl, fun post H => br_t (Int32.le_refl _) H, fun post H => br_t (Int32.le_refl _) H⟩
  | succ d ih =>
    intro i a oi os ot yop yse yth hi U
    have him : i < m := by omega
    have hl := fw_st_len w i (by omega)
    obtain ⟨v, hv, ev⟩ := pk_andE (xs i) (m := 7) 3 (by decide)
    have hv8 : v < 8 := hv
    have ha := fw_US_255 U
    obtain ⟨kq, hkq, ekq⟩ := (hF i him).1
    have k8 : (xk i).toInt8.toInt32 = xk i := by rw [ekq]; exact fw_b8 (by omega)
    by_cases bad : fw_rd (xk i) ∧ bt a v = false
    · refine ⟨nI i, _, oi, os, ot, yop, yse, yth, Or.inr ⟨i, by omega, rfl⟩, fun post H => xu_a hm him ev (fun _ _ => H) (fun z => absurd ((fw_bitx hv8).mpr bad.2) (z bad.1)), fun post H => yu_a hm him ev (fun _ _ => H) (fun z => absurd ((fw_bity hv8).mpr bad.2) (z bad.1))⟩
    · have nb : fw_rd (xk i) → ¬ bt a v = false := fun h z => bad ⟨h, z⟩
      have h11 : xk i = 11 → a ||| fw_bit v = a := fun h => fw_bitor hv8 (nb (Or.inr (Or.inr h)))
      generalize eb : fw_se (xk i) a v = b
      have hab : fw_sub a b := by
        rw [← eb, fw_se]
        split
        · exact fw_sub_or _ (fw_sub_refl a)
        · exact fw_sub_refl a
      have hb : fw_sub b 255 := by
        rw [← eb, fw_se]
        split
        · exact fw_or_sub ha (fw_bit255 hv8)
        · exact ha
      have U := fw_US_mono hab hb U
      have XX : ∀ post : Int32 → SX → Prop, (wX_unset_97 post (wX_unset_9 post (nI m) xln xrd xil cnt xml wr pc pos lim bby bl sm st tkn dep beg oc plc rch (d + 1)) b (nI i) (xk i) (nI m) xln xrd (nI (fw_st xk i).length) xil cnt xml wr pc pos lim bby bl sm st tkn dep beg oc plc rch xk xf xs wh aa bb par ri rb rv oi os ot inp lst mad vr sav) → (wX_unset_9 post (nI m) xln xrd xil cnt xml wr pc pos lim bby bl sm st tkn dep beg oc plc rch (d + 1 + 1) a (nI i) (nI (fw_st xk i).length) xk xf xs wh aa bb par ri rb rv oi os ot inp lst mad vr sav) := by
        intro post H
        refine xu_a hm him ev (fun z y => absurd ((fw_bitx hv8).mp y) (nb z)) (fun _ => xu_81 ?_)
        rw [eb]; exact H
      have YY : ∀ post : Int32 → SY → Prop, (wY_unset_110 post (wY_unset_6 post (nI m) ysz yfd yls ymd ysa ytk ydp yps ybt yst yus ynx yra yrd (d + 1)) b (nI (fw_st xk i).length) (nI i) (xk i) (nI m) ysz yfd yls ymd ysa ytk ydp yps ybt yst yus ynx yra yrd xk yas xs yk yf ys yin yli you yva yop ynu yse yth) → (wY_unset_6 post (nI m) ysz yfd yls ymd ysa ytk ydp yps ybt yst yus ynx yra yrd (d + 1 + 1) a (nI (fw_st xk i).length) (nI i) xk yas xs yk yf ys yin yli you yva yop ynu yse yth) := by
        intro post H
        refine yu_a hm him ev (fun z y => absurd ((fw_bity hv8).mp y) (nb z)) (fun _ => yu_83 h11 ?_)
        rw [eb]; exact H
      rcases fw_st_cases xk i with ⟨h, e⟩ | ⟨h, e⟩ | ⟨h, e⟩ | ⟨h, h2, h3, e⟩
      · obtain ⟨n12, n13, _⟩ := fw_o12 h
        have hl4 := w.2.2.1 i him h
        obtain ⟨r, xop', oi', os', ot', yop', yse', yth', a1, aX, aY⟩ := ih (i + 1) b (upd oi (fw_st xk i).length (xk i)) (upd os (fw_st xk i).length b) (upd ot (fw_st xk i).length (if xk i = 4 then b else -1)) (upd yop (fw_st xk i).length (xk i)) (upd yse (fw_st xk i).length b) yth (by omega) (by
          rw [e]
          refine ⟨hb, by rw [pk_us]; exact fw_sub_refl b, pk_us, pk_us, by rw [pk_us, pk_us], fun z => absurd z n12, fun z => by rw [pk_us, pk_us, if_pos z], ?_⟩
          rw [pk_us]
          exact fw_US_frame (fun d hd => ⟨pk_un (by omega), pk_un (by omega), pk_un (by omega), pk_un (by omega), pk_un (by omega), rfl⟩) U)
        rw [e, List.length_cons] at aX aY
        exact ⟨r, xop', oi', os', ot', yop', yse', yth', a1, fun post H => XX post (xu_97 (by omega) hl hb k8 (fun _ => ⟨hl4, aX post H⟩) (fun z => absurd z n12) (fun z => absurd z n13) (fun z => absurd h z)), fun post H => YY post (yu_110 (by omega) hl (fun _ => aY post H) (fun z => absurd z n12) (fun z => absurd z n13) (fun z => absurd h z))⟩
      · have no : ¬ (xk i = 4 ∨ xk i = 5 ∨ xk i = 6) := by rw [h]; decide
        have n13 : ¬ xk i = 13 := by rw [h]; decide
        obtain ⟨o, t, q, _⟩ := w.1 i him h
        rw [q] at e U XX YY hl ⊢
        rw [List.tail_cons] at e
        obtain ⟨u1, u2, u3, u4, u5, u6, u7, u8⟩ := U
        rw [List.length_cons] at hl XX YY ⊢
        obtain ⟨r, xop', oi', os', ot', yop', yse', yth', a1, aX, aY⟩ := ih (i + 1) (yse t.length) (upd oi t.length 12) os (upd ot t.length b) (upd yop t.length 12) yse (upd yth t.length b) (by omega) (by
          rw [e]
          refine ⟨fw_sub_tr u2 hb, fw_sub_refl _, by rw [h]; exact pk_us, by rw [h]; exact pk_us, u5, fun _ => ⟨by rw [pk_us, pk_us], by rw [pk_us]; exact u2⟩, fun z => by rw [h] at z; exact absurd z (by decide), ?_⟩
          exact fw_US_frame (fun d hd => ⟨pk_un (by omega), rfl, pk_un (by omega), pk_un (by omega), rfl, pk_un (by omega)⟩) u8)
        rw [e] at aX aY
        refine ⟨r, xop', oi', os', ot', yop', yse', yth', a1, fun post H => XX post (xu_97 (by omega) hl hb k8 (fun z => absurd z no) (fun _ => ⟨by omega, ?_⟩) (fun z => absurd z n13) (fun _ z => absurd h z)), fun post H => YY post (yu_110 (by omega) hl (fun z => absurd z no) (fun _ => ⟨by omega, aY post H⟩) (fun z => absurd z n13) (fun _ z => absurd h z))⟩
        rw [Nat.add_sub_cancel, u5]
        exact aX post H
      · have no : ¬ (xk i = 4 ∨ xk i = 5 ∨ xk i = 6) := by rw [h]; decide
        have n12 : ¬ xk i = 12 := by rw [h]; decide
        obtain ⟨o, t, q⟩ := w.2.1 i him h
        have hok := (fw_st_lt (K := xk) i o (by rw [q]; exact List.mem_cons_self)).2
        rw [q] at e U XX YY hl ⊢
        rw [List.tail_cons] at e
        obtain ⟨u1, u2, u3, u4, u5, u6, u7, u8⟩ := U
        rw [List.length_cons] at hl XX YY ⊢
        obtain ⟨g, eX, eY, Ug⟩ : ∃ g : Int32, g = (if oi t.length = 5 then os t.length else if oi t.length = 6 then b else b &&& ot t.length) ∧ g = (if yop t.length = 12 then b &&& yth t.length else if yop t.length = 6 then b else yse t.length) ∧ fw_US xk oi os ot yop yse yth g t := by
          rw [u3, u4]
          rcases hok with h4 | h5 | h6 | h12
          · refine ⟨yse t.length, ?_, ?_, u8⟩
            · rw [h4, if_neg (by decide), if_neg (by decide), u7 h4, fw_and_eq u2]
            · rw [h4, if_neg (by decide), if_neg (by decide)]
          · refine ⟨yse t.length, ?_, ?_, u8⟩
            · rw [h5, if_pos rfl, u5]
            · rw [h5, if_neg (by decide), if_neg (by decide)]
          · refine ⟨b, ?_, ?_, fw_US_mono u2 hb u8⟩
            · rw [h6, if_neg (by decide), if_pos rfl]
            · rw [h6, if_neg (by decide), if_pos rfl]
          · refine ⟨b &&& yth t.length, ?_, ?_, fw_US_mono (fw_sub_and u2 (u6 h12).2) (fw_and_sub _ hb) u8⟩
            · rw [h12, if_neg (by decide), if_neg (by decide), (u6 h12).1]
            · rw [h12, if_pos rfl]
        obtain ⟨r, xop', oi', os', ot', yop', yse', yth', a1, aX, aY⟩ := ih (i + 1) g oi os ot yop yse yth (by omega) (by rw [e]; exact Ug)
        rw [e] at aX aY
        refine ⟨r, xop', oi', os', ot', yop', yse', yth', a1, fun post H => XX post (xu_97 (by omega) hl hb k8 (fun z => absurd z no) (fun z => absurd z n12) (fun _ => ⟨by omega, fun b' eb' => ?_⟩) (fun _ _ z => absurd h z)), fun post H => YY post (yu_110 (by omega) hl (fun z => absurd z no) (fun z => absurd z n12) (fun _ => ⟨by omega, fun b' eb' => ?_⟩) (fun _ _ z => absurd h z))⟩
        · rw [Nat.add_sub_cancel] at eb' ⊢
          rw [eb', ← eX]
          exact aX post H
        · rw [Nat.add_sub_cancel] at eb' ⊢
          rw [eb', ← eY]
          exact aY post H
      · obtain ⟨r, xop', oi', os', ot', yop', yse', yth', a1, aX, aY⟩ := ih (i + 1) b oi os ot yop yse yth (by omega) (by rw [e]; exact U)
        rw [e] at aX aY
        exact ⟨r, xop', oi', os', ot', yop', yse', yth', a1, fun post H => XX post (xu_97 (by omega) hl hb k8 (fun z => absurd z h) (fun z => absurd z h2) (fun z => absurd z h3) (fun _ _ _ => aX post H)), fun post H => YY post (yu_110 (by omega) hl (fun z => absurd z h) (fun z => absurd z h2) (fun z => absurd z h3) (fun _ _ _ => aY post H))⟩
end
section
/-! the component installs a format, the reference copies it -/
variable {xit xln xrd xop xil cnt xml wr pc pos lim bby bl sm st tkn dep beg oc plc rch : Int32} {xk xf xs wh aa bb par ri rb rv oi os ot inp lst mad vr sav : Nat → Int32} {yit ysz yfd yls ymd ysa ytk ydp yps ybt yst yus ynx yra yrd : Int32} {yks yas ybs yk yf ys yin yli you yva yop ynu yse yth : Nat → Int32}
def fw_pp (K par : Nat → Int32) (i : Nat) : Prop :=
  (∀ e, e < i → K e = 13 → ∃ o t, fw_st K e = o :: t ∧ par e = nI o ∧ par o = nI e ∧ o ∉ fw_st K i) ∧
  (∀ l, l < i → K l = 12 → ∃ o t, fw_st K l = o :: t ∧ par o = nI l ∧ o ∉ fw_st K i)
theorem fw_st_mem {K : Nat → Int32} {i x : Nat} (h : x ∈ fw_st K (i + 1)) : x ∈ fw_st K i ∨ x = i := by
  rcases fw_st_cases K i with ⟨_, e⟩ | ⟨_, e⟩ | ⟨_, e⟩ | ⟨_, _, _, e⟩ <;> rw [e] at h
  · rcases List.mem_cons.mp h with h | h
    · exact Or.inr h
    · exact Or.inl h
  · rcases List.mem_cons.mp h with h | h
    · exact Or.inr h
    · exact Or.inl (List.mem_of_mem_tail h)
  · exact Or.inl (List.mem_of_mem_tail h)
  · exact Or.inl h
theorem fw_hd_lt {K : Nat → Int32} {e o : Nat} {t : List Nat} (h : fw_st K e = o :: t) : o < e ∧ (K o = 4 ∨ K o = 5 ∨ K o = 6 ∨ K o = 12) := fw_st_lt e o (by rw [h]; exact List.mem_cons_self)
theorem fw_pp_same {K par : Nat → Int32} {i : Nat} (P : fw_pp K par i) (h2 : ¬ K i = 12) (h3 : ¬ K i = 13) : fw_pp K par (i + 1) := by
  have N : ∀ {e o : Nat} {t : List Nat}, e < i → fw_st K e = o :: t → o ∉ fw_st K i → o ∉ fw_st K (i + 1) := by
    intro e o t he h ho hm
    rcases fw_st_mem hm with h' | h'
    · exact ho h'
    · have := (fw_hd_lt h).1; omega
  refine ⟨fun e he k => ?_, fun e he k => ?_⟩
  · have : e ≠ i := fun z => h3 (by rw [← z]; exact k)
    obtain ⟨o, t, a, b, c, d⟩ := P.1 e (by omega) k
    exact ⟨o, t, a, b, c, N (by omega) a d⟩
  · have : e ≠ i := fun z => h2 (by rw [← z]; exact k)
    obtain ⟨o, t, a, b, c⟩ := P.2 e (by omega) k
    exact ⟨o, t, a, b, N (by omega) a c⟩
theorem fw_pp_pop {K par : Nat → Int32} {i o : Nat} {t : List Nat} (P : fw_pp K par i) (hk : K i = 12 ∨ K i = 13) (h : fw_st K i = o :: t) : fw_pp K (upd (upd par o (nI i)) i (nI o)) (i + 1) := by
  have ho := fw_hd_lt h
  have hmo : o ∈ fw_st K i := by rw [h]; exact List.mem_cons_self
  have N : ∀ {e x : Nat} {t : List Nat}, e < i → fw_st K e = x :: t → x ∉ fw_st K i → x ∉ fw_st K (i + 1) := by
    intro e x t he h hx hm
    rcases fw_st_mem hm with h' | h'
    · exact hx h'
    · have := (fw_hd_lt h).1; omega
  have N0 : o ∉ fw_st K (i + 1) := by
    have nd := fw_st_nd h
    rcases hk with k | k
    · rw [fw_st_12 k, h]
      intro hm
      rcases List.mem_cons.mp hm with h' | h'
      · omega
      · exact nd h'
    · rw [fw_st_13 k, h]
      exact nd
  have V : ∀ {x : Nat}, x < i → x ≠ o → upd (upd par o (nI i)) i (nI o) x = par x := fun h1 h2 => by rw [pk_un (by omega), pk_un h2]
  have V0 : upd (upd par o (nI i)) i (nI o) o = nI i := by rw [pk_un (by omega), pk_us]
  refine ⟨fun e he k => ?_, fun e he k => ?_⟩
  · by_cases z : e = i
    · subst z
      exact ⟨o, t, h, pk_us, V0, N0⟩
    · obtain ⟨x, t', a, b, c, d⟩ := P.1 e (by omega) k
      have hx := (fw_hd_lt a).1
      have eo : e ≠ o := by
        intro q
        rw [q] at k
        rcases ho.2 with g | g | g | g <;> rw [k] at g <;> exact absurd g (by decide)
      have xo : x ≠ o := fun q => d (by rw [q]; exact hmo)
      exact ⟨x, t', a, by rw [V (by omega) eo]; exact b, by rw [V (by omega) xo]; exact c, N (by omega) a d⟩
  · by_cases z : e = i
    · subst z
      exact ⟨o, t, h, V0, N0⟩
    · obtain ⟨x, t', a, b, c⟩ := P.2 e (by omega) k
      have hx := (fw_hd_lt a).1
      have xo : x ≠ o := fun q => c (by rw [q]; exact hmo)
      exact ⟨x, t', a, by rw [V (by omega) xo]; exact b, N (by omega) a c⟩
theorem xn_134 {post : SX → Prop} {m i q d : Nat} (hi : i < 40) (hd : d < 4) (H : (wX_install_20 post (nI m) xln xrd xil cnt xml wr pc pos lim bby bl sm st tkn dep beg oc plc rch q (nI (i + 1)) (nI (d + 1)) xk xf xs wh aa bb par ri rb rv (upd oi d (nI i)) os ot inp lst mad vr sav)) : (wX_install_134 post (wX_install_20 post (nI m) xln xrd xil cnt xml wr pc pos lim bby bl sm st tkn dep beg oc plc rch q) (nI i) (nI m) xln xrd (nI d) xil cnt xml wr pc pos lim bby bl sm st tkn dep beg oc plc rch xk xf xs wh aa bb par ri rb rv oi os ot inp lst mad vr sav) :=
  nm_r (nI_1 d) (And.intro (vp_in_nI hd (by decide)) (nm_r (e' := upd oi d (nI i)) (by rw [nI_clamp (by omega), pk_vb, fw_b8 (by omega)]) (nm_r (nI_1 i) H)))
theorem xn_79 {post : SX → Prop} {m i q d o : Nat} {k : Int32} (hi : i < 40) (hd0 : 0 < d) (hd : d ≤ 4) (ho : o < 40) (eo : oi (d - 1) = nI o) (hk : k = 12 ∨ k = 13)
    (H12 : k = 12 → (wX_install_20 post (nI m) xln xrd xil cnt xml wr pc pos lim bby bl sm st tkn dep beg oc plc rch q (nI (i + 1)) (nI d) xk xf xs wh aa bb (upd (upd par o (nI i)) i (nI o)) ri rb rv (upd oi (d - 1) (nI i)) os ot inp lst mad vr sav))
    (H13 : k = 13 → (wX_install_20 post (nI m) xln xrd xil cnt xml wr pc pos lim bby bl sm st tkn dep beg oc plc rch q (nI (i + 1)) (nI (d - 1)) xk xf xs wh aa bb (upd (upd par o (nI i)) i (nI o)) ri rb rv oi os ot inp lst mad vr sav)) : (wX_install_79 post (wX_install_20 post (nI m) xln xrd xil cnt xml wr pc pos lim bby bl sm st tkn dep beg oc plc rch q) (nI i) k (nI m) xln xrd (nI d) xil cnt xml wr pc pos lim bby bl sm st tkn dep beg oc plc rch xk xf xs wh aa bb par ri rb rv oi os ot inp lst mad vr sav) := by
  unfold wX_install_79
  rw [fw_m1 hd0, nI_clamp (n := d - 1) (by omega), eo]
  refine And.intro (vp_in_nI (by omega) (by decide)) (nm_e (And.intro (vp_in_nI (by omega) (by decide)) (nm_r (e' := upd par o (nI i)) (by rw [nI_clamp (by omega), pk_vb, fw_b8 (by omega)]) (And.intro (vp_in_nI (by omega) (by decide)) (nm_r (e' := upd (upd par o (nI i)) i (nI o)) (by rw [nI_clamp (by omega), pk_vb, fw_b8 (by omega)]) (nm_e ?_))))))
  rcases hk with rfl | rfl
  · have H := H12 rfl
    rw [show d = d - 1 + 1 by omega] at H
    refine br_f (by decide) (br_f (by decide) (br_t rfl (xn_134 hi (by omega) ?_)))
    exact H
  · exact br_f (by decide) (br_f (by decide) (br_f (by decide) (nm_r (nI_1 i) (H13 rfl))))
theorem xn_step {post : SX → Prop} {m i q d : Nat} (hm : m ≤ 40) (hi : i < m) (hk8 : (xk i).toInt8.toInt32 = xk i)
    (Hop : (xk i = 4 ∨ xk i = 5 ∨ xk i = 6) → (wX_install_134 post (wX_install_20 post (nI m) xln xrd xil cnt xml wr pc pos lim bby bl sm st tkn dep beg oc plc rch q) (nI i) (nI m) xln xrd (nI d) xil cnt xml wr pc pos lim bby bl sm st tkn dep beg oc plc rch xk xf xs (upd wh i (xk i)) (upd aa i (xf i)) (upd bb i (xs i)) par ri rb rv oi os ot inp lst mad vr sav))
    (H79 : (xk i = 12 ∨ xk i = 13) → (wX_install_79 post (wX_install_20 post (nI m) xln xrd xil cnt xml wr pc pos lim bby bl sm st tkn dep beg oc plc rch q) (nI i) (xk i) (nI m) xln xrd (nI d) xil cnt xml wr pc pos lim bby bl sm st tkn dep beg oc plc rch xk xf xs (upd wh i (xk i)) (upd aa i (xf i)) (upd bb i (xs i)) par ri rb rv oi os ot inp lst mad vr sav))
    (Hno : ¬ (xk i = 4 ∨ xk i = 5 ∨ xk i = 6) → ¬ xk i = 12 → ¬ xk i = 13 → (wX_install_20 post (nI m) xln xrd xil cnt xml wr pc pos lim bby bl sm st tkn dep beg oc plc rch q (nI (i + 1)) (nI d) xk xf xs (upd wh i (xk i)) (upd aa i (xf i)) (upd bb i (xs i)) par ri rb rv oi os ot inp lst mad vr sav)) :
    (wX_install_20 post (nI m) xln xrd xil cnt xml wr pc pos lim bby bl sm st tkn dep beg oc plc rch (q + 1) (nI i) (nI d) xk xf xs wh aa bb par ri rb rv oi os ot inp lst mad vr sav) := by
  have hv : vp_in (nI i) 40 := vp_in_nI (by omega) (by decide)
  have hv1 : vp_in (nI i) 41 := vp_in_nI (by omega) (by decide)
  have ci : (nI i).toNatClampNeg = i := nI_clamp (by omega)
  refine br_f (nI_ge hi (by omega)) (And.intro hv (nm_r (e' := xk i) (by rw [ci]) (And.intro hv1 (nm_r (e' := upd wh i (xk i)) (by rw [ci, pk_vb, hk8]) (And.intro hv (And.intro hv1 (nm_r (e' := upd aa i (xf i)) (by rw [ci]) (And.intro hv (And.intro hv1 (nm_r (e' := upd bb i (xs i)) (by rw [ci]) ⟨fun z => H79 (Or.inl z), fun z => ⟨fun z2 => H79 (Or.inr z2), fun z2 => ?_⟩⟩))))))))))
  by_cases ho : xk i = 4 ∨ xk i = 5 ∨ xk i = 6
  · obtain ⟨_, _, n4, _, l6, _⟩ := fw_o12 ho
    exact br_f n4 (br_t l6 (Hop ho))
  · rcases fw_nop ho with y | ⟨y, y2⟩
    · exact br_t y (br_f z (nm_r (nI_1 i) (Hno ho z z2)))
    · exact br_f y (br_f (Int32.not_le.mpr y2) (br_f z (nm_r (nI_1 i) (Hno ho z z2))))
theorem fw_app {f g : Nat → Int32} {i : Nat} (h : ∀ j, j < i → f j = g j) : ∀ j, j < i + 1 → upd f i (g i) j = g j := by
  intro j hj
  by_cases e : j = i
  · rw [e, pk_us]
  · rw [pk_un e]; exact h j (by omega)
theorem xn_loop {m : Nat} (hm : m ≤ 40) (w : fw_wf xk m) (hF : ∀ j, j < m → fw_FV (xk j) (xf j)) : ∀ d i (wh aa bb par oi : Nat → Int32), i + d = m → (∀ j, j < i → wh j = xk j) → (∀ j, j < i → aa j = xf j) → (∀ j, j < i → bb j = xs j) → fw_AL oi (fw_st xk i) → fw_pp xk par i →
    ∃ (wh' aa' bb' par' oi' : Nat → Int32) (xop' : Int32), (∀ j, j < m → wh' j = xk j) ∧ (∀ j, j < m → aa' j = xf j) ∧ (∀ j, j < m → bb' j = xs j) ∧ fw_pp xk par' m ∧
      (∀ post : SX → Prop, (∃ n174, (wX_install_174 post n174 (nI m) (nI m) xln xrd xop' xil cnt xml wr pc pos lim bby bl sm st tkn dep beg oc plc rch xk xf xs (upd wh' m 14) aa' bb' par' ri rb rv oi' os ot inp lst mad vr sav)) → (wX_install_20 post (nI m) xln xrd xil cnt xml wr pc pos lim bby bl sm st tkn dep beg oc plc rch (d + 1) (nI i) (nI (fw_st xk i).length) xk xf xs wh aa bb par ri rb rv oi os ot inp lst mad vr sav)) := by
  intro d
  induction d with
  | zero =>
    intro i wh aa bb par oi hi h1 h2 h3 A P
    obtain rfl : i = m := by omega
    refine ⟨wh, aa, bb, par, oi, nI (fw_st xk i).length, h1, h2, h3, P, fun post H => ?_⟩
    exact br_t (Int32.le_refl _) (And.intro (vp_in_nI (by omega) (by decide)) (nm_r (e' := upd wh i 14) (by rw [nI_clamp (by omega), vp_nar_byte]; rfl) H))
  | succ d ih =>
    intro i wh aa bb par oi hi h1 h2 h3 A P
    have him : i < m := by omega
    have hl := fw_st_len w i (by omega)
    obtain ⟨kq, hkq, ekq⟩ := (hF i him).1
    have k8 : (xk i).toInt8.toInt32 = xk i := by rw [ekq]; exact fw_b8 (by omega)
    rcases fw_st_cases xk i with ⟨h, e⟩ | ⟨h, e⟩ | ⟨h, e⟩ | ⟨h, n2, n3, e⟩
    · obtain ⟨n12, n13, _⟩ := fw_o12 h
      have hl4 := w.2.2.1 i him h
      obtain ⟨wh', aa', bb', par', oi', xop', a1, a2, a3, a4, aX⟩ := ih (i + 1) (upd wh i (xk i)) (upd aa i (xf i)) (upd bb i (xs i)) par (upd oi (fw_st xk i).length (nI i)) (by omega) (fw_app h1) (fw_app h2) (fw_app h3) (by rw [e]; exact ⟨pk_us, fw_AL_upd (Nat.le_refl _) A⟩) (fw_pp_same P n12 n13)
      rw [e, List.length_cons] at aX
      exact ⟨wh', aa', bb', par', oi', xop', a1, a2, a3, a4, fun post H => xn_step hm him k8 (fun _ => xn_134 (by omega) hl4 (aX post H)) (fun z => z.elim (fun y => absurd y n12) (fun y => absurd y n13)) (fun z => absurd h z)⟩
    · have no : ¬ (xk i = 4 ∨ xk i = 5 ∨ xk i = 6) := by rw [h]; decide
      obtain ⟨o, t, q, _⟩ := w.1 i him h
      have P' := fw_pp_pop P (Or.inl h) q
      have ho := (fw_hd_lt q).1
      rw [q] at e A hl ⊢
      rw [List.tail_cons] at e
      rw [List.length_cons] at hl ⊢
      obtain ⟨wh', aa', bb', par', oi', xop', a1, a2, a3, a4, aX⟩ := ih (i + 1) (upd wh i (xk i)) (upd aa i (xf i)) (upd bb i (xs i)) (upd (upd par o (nI i)) i (nI o)) (upd oi t.length (nI i)) (by omega) (fw_app h1) (fw_app h2) (fw_app h3) (by rw [e]; exact ⟨pk_us, fw_AL_upd (Nat.le_refl _) A.2⟩) P'
      rw [e, List.length_cons] at aX
      exact ⟨wh', aa', bb', par', oi', xop', a1, a2, a3, a4, fun post H => xn_step hm him k8 (fun z => absurd z no) (fun _ => xn_79 (by omega) (by omega) hl (by omega) A.1 (Or.inl h) (fun _ => aX post H) (fun z => by rw [h] at z; exact absurd z (by decide))) (fun _ z => absurd h z)⟩
    · have no : ¬ (xk i = 4 ∨ xk i = 5 ∨ xk i = 6) := by rw [h]; decide
      obtain ⟨o, t, q⟩ := w.2.1 i him h
      have P' := fw_pp_pop P (Or.inr h) q
      have ho := (fw_hd_lt q).1
      rw [q] at e A hl ⊢
      rw [List.tail_cons] at e
      rw [List.length_cons] at hl ⊢
      obtain ⟨wh', aa', bb', par', oi', xop', a1, a2, a3, a4, aX⟩ := ih (i + 1) (upd wh i (xk i)) (upd aa i (xf i)) (upd bb i (xs i)) (upd (upd par o (nI i)) i (nI o)) oi (by omega) (fw_app h1) (fw_app h2) (fw_app h3) (by rw [e]; exact A.2) P'
      rw [e] at aX
      exact ⟨wh', aa', bb', par', oi', xop', a1, a2, a3, a4, fun post H => xn_step hm him k8 (fun z => absurd z no) (fun _ => xn_79 (by omega) (by omega) hl (by omega) A.1 (Or.inr h) (fun z => by rw [h] at z; exact absurd z (by decide)) (fun _ => aX post H)) (fun _ _ z => absurd h z)⟩
    · obtain ⟨wh', aa', bb', par', oi', xop', a1, a2, a3, a4, aX⟩ := ih (i + 1) (upd wh i (xk i)) (upd aa i (xf i)) (upd bb i (xs i)) par oi (by omega) (fw_app h1) (fw_app h2) (fw_app h3) (by rw [e]; exact A) (fw_pp_same P n2 n3)
      rw [e] at aX
      exact ⟨wh', aa', bb', par', oi', xop', a1, a2, a3, a4, fun post H => xn_step hm him k8 (fun z => absurd z h) (fun z => z.elim (fun y => absurd y n2) (fun y => absurd y n3)) (fun _ _ _ => aX post H)⟩
/-! the runs -/
theorem fw_b16 {i : Nat} (h : i < 256) : (nI i).toInt16.toInt32 = nI i := by
  have : ∀ i, i < 256 → (nI i).toInt16.toInt32 = nI i := by decide +kernel
  exact this i h
theorem xm_no {post : SX → Prop} {i : Nat} (hi : i < 41) (h0 : ¬ wh i = 0) (h3 : ¬ wh i = 3) (H : post (xit, xln, xrd, xop, xil, cnt, xml, wr, pc, pos, lim, bby, bl, sm, st, tkn, dep, beg, oc, plc, rch, xk, xf, xs, wh, aa, bb, par, upd ri i 0, rb, rv, oi, os, ot, inp, lst, mad, vr, sav)) : (wpX_measure post (xit, xln, xrd, xop, xil, cnt, xml, wr, pc, pos, lim, bby, bl, sm, st, tkn, dep, beg, oc, plc, rch, xk, xf, xs, wh, aa, bb, par, ri, rb, rv, oi, os, ot, inp, lst, mad, vr, sav) (nI i)) := by
  have hv : vp_in (nI i) 41 := vp_in_nI hi (by decide)
  have ci : (nI i).toNatClampNeg = i := nI_clamp (by omega)
  exact And.intro hv (nm_r (e' := wh i) (by rw [ci]) (br_f h0 (br_f h3 (And.intro hv (nm_r (e' := upd ri i 0) (by rw [ci, vp_nar_byte]; rfl) (br_t rfl H))))))
theorem xm_run {post : SX → Prop} {i r b v W s : Nat} (hi : i < 40) (hk : (wh i = 0 ∧ aa i = nI W ∧ s = 1) ∨ (wh i = 3 ∧ W = 1 ∧ s = 0)) (hW : W ≤ 4) (er : ri (i + 1) = nI r) (hr : r < 40) (eb : 0 < r → rb (i + 1) = nI b ∧ rv (i + 1) = nI v) (z0 : r = 0 → b = 0 ∧ v = 0) (hb : b ≤ 160) (hv' : v ≤ 40)
    (H : post (xit, xln, xrd, xop, xil, cnt, xml, wr, pc, pos, lim, bby, bl, sm, st, tkn, dep, beg, oc, plc, rch, xk, xf, xs, wh, aa, bb, par, upd ri i (nI (r + 1)), upd rb i (nI (b + W)), upd rv i (nI (v + s)), oi, os, ot, inp, lst, mad, vr, sav)) : (wpX_measure post (xit, xln, xrd, xop, xil, cnt, xml, wr, pc, pos, lim, bby, bl, sm, st, tkn, dep, beg, oc, plc, rch, xk, xf, xs, wh, aa, bb, par, ri, rb, rv, oi, os, ot, inp, lst, mad, vr, sav) (nI i)) := by
  have hv : vp_in (nI i) 41 := vp_in_nI (by omega) (by decide)
  have ci : (nI i).toNatClampNeg = i := nI_clamp (by omega)
  have hvn : vp_in (nI i + 1) 41 := by rw [nI_1]; exact vp_in_nI (by omega) (by decide)
  have cn : (nI i + 1).toNatClampNeg = i + 1 := by rw [nI_1]; exact nI_clamp (by omega)
  have hs : s ≤ 1 := by rcases hk with ⟨_, _, h⟩ | ⟨_, _, h⟩ <;> omega
  have er5 : upd ri i 0 (nI i + 1).toNatClampNeg = nI r := by rw [cn, pk_un (by omega), er]
  have G : (wX_measure_16 post (nI i) (wh i) xit xln xrd xop xil cnt xml wr pc pos lim bby bl sm st tkn dep beg oc plc rch xk xf xs wh aa bb par ri rb rv oi os ot inp lst mad vr sav) := by
    refine And.intro hv (nm_r (e' := upd ri i 0) (by rw [ci, vp_nar_byte]; rfl) (br_f (by decide) (And.intro hvn ?_)))
    rw [er5]
    -- the last store
    have L144 : ∀ (z : Nat), z + s = v + s → (wX_measure_144 post (wh i) (nI z) (nI i) xit xln xrd xop xil cnt xml wr pc pos lim bby bl sm st tkn dep beg oc plc rch xk xf xs wh aa bb par (upd ri i (nI (r + 1))) (upd rb i (nI (b + W))) rv oi os ot inp lst mad vr sav) := by
      intro z ez
      obtain rfl : z = v := by omega
      rcases hk with ⟨k0, _, rfl⟩ | ⟨k3, _, rfl⟩
      · exact br_t k0 (And.intro hv (nm_r (e' := upd rv i (nI (z + 1))) (by rw [ci, nI_1, pk_vb, fw_b8 (by omega)]) H))
      · refine br_f (by rw [k3]; decide) (And.intro hv (nm_r (e' := upd rv i (nI (z + 0))) ?_ H))
        rw [ci, Int32.add_zero, pk_vb, fw_b8 (by omega)]
        rfl
    have L50 : ∀ mo : Int32, (mo = 0 ↔ r = 0) → (wX_measure_50 post (nI i) (wh i) mo xit xln xrd xop xil cnt xml wr pc pos lim bby bl sm st tkn dep beg oc plc rch xk xf xs wh aa bb par (upd ri i 0) rb rv oi os ot inp lst mad vr sav) := by
      intro mo hmo
      have L66 : (wX_measure_66 post (nI i) (wh i) mo (nI W) xit xln xrd xop xil cnt xml wr pc pos lim bby bl sm st tkn dep beg oc plc rch xk xf xs wh aa bb par (upd ri i 0) rb rv oi os ot inp lst mad vr sav) := by
        by_cases hr0 : r = 0
        · obtain ⟨b0, v0⟩ := z0 hr0
          have m0 := hmo.mpr hr0
          refine br_t m0 (And.intro hv (nm_r (e' := upd ri i (nI (r + 1))) (by rw [ci, fw_upd2, hr0, show (1 : Int32) = nI 1 from rfl, pk_vb, fw_b8 (by omega)]) (br_t m0 (And.intro hv (nm_r (e' := upd rb i (nI (b + W))) (by rw [ci, pk_vs, fw_b16 (by omega), b0, Nat.zero_add]) (br_t m0 (L144 0 (by omega))))))))
        · obtain ⟨eb1, ev1⟩ := eb (by omega)
          have m0 : ¬ mo = 0 := fun z => hr0 (hmo.mp z)
          refine br_f m0 (And.intro hvn ?_)
          rw [er5]
          refine And.intro hv (nm_r (e' := upd ri i (nI (r + 1))) (by rw [ci, fw_upd2, nI_1, pk_vb, fw_b8 (by omega)]) (br_f m0 (And.intro hvn ?_)))
          rw [cn, eb1]
          refine And.intro hv (nm_r (e' := upd rb i (nI (b + W))) (by rw [ci, nI_add, pk_vs, fw_b16 (by omega)]) (br_f m0 (And.intro hvn ?_)))
          rw [cn, ev1]
          exact L144 v rfl
      rcases hk with ⟨k0, ea, _⟩ | ⟨k3, eW, _⟩
      · refine br_t k0 (And.intro hv ?_)
        rw [ci, ea]
        exact L66
      · refine br_f (by rw [k3]; decide) ?_
        rw [eW] at L66
        exact L66
    exact pk_le r 0 (fun h => L50 0 ⟨fun _ => by omega, fun _ => rfl⟩) (fun h => L50 1 ⟨fun z => absurd z (by decide), fun z => by omega⟩)
  refine And.intro hv (nm_r (e' := wh i) (by rw [ci]) ?_)
  rcases hk with ⟨k0, _⟩ | ⟨k3, _⟩
  · exact br_t k0 G
  · exact br_f (by rw [k3]; decide) (br_t k3 G)
def fw_rp (K A ri rb rv : Nat → Int32) (m i : Nat) : Prop :=
  ∀ j, i ≤ j → j ≤ m → ∃ r b v : Nat, ri j = nI r ∧ j + r ≤ m ∧ (0 < r → rb j = nI b ∧ rv j = nI v) ∧ (r = 0 → b = 0 ∧ v = 0) ∧ b ≤ 4 * r ∧ v ≤ r ∧ fw_RO K A r j b v
theorem xm_loop {m : Nat} (hm : m ≤ 40) (h14 : wh m = 14) (hF : ∀ j, j < m → fw_FV (wh j) (aa j)) : ∀ c (ri rb rv : Nat → Int32), c ≤ m + 1 → fw_rp wh aa ri rb rv m c →
    ∃ (ri' rb' rv' : Nat → Int32), fw_rp wh aa ri' rb' rv' m 0 ∧ (∀ post : SX → Prop, post (xit, xln, xrd, xop, xil, cnt, xml, wr, pc, pos, lim, bby, bl, sm, st, tkn, dep, beg, oc, plc, rch, xk, xf, xs, wh, aa, bb, par, ri', rb', rv', oi, os, ot, inp, lst, mad, vr, sav) → (wX_install_174 post (c + 1) (nI c - 1) xit xln xrd xop xil cnt xml wr pc pos lim bby bl sm st tkn dep beg oc plc rch xk xf xs wh aa bb par ri rb rv oi os ot inp lst mad vr sav)) := by
  intro c
  induction c with
  | zero =>
    intro ri rb rv hc P
    exact ⟨ri, rb, rv, P, fun post H => br_t (by decide) H⟩
  | succ c ih =>
    intro ri rb rv hc P
    have e1 : nI (c + 1) - 1 = nI c := nI_pred c
    rw [e1]
    have STEP : ∀ post : SX → Prop, ∀ ri' rb' rv' : Nat → Int32, (∀ post' : SX → Prop, post' (xit, xln, xrd, xop, xil, cnt, xml, wr, pc, pos, lim, bby, bl, sm, st, tkn, dep, beg, oc, plc, rch, xk, xf, xs, wh, aa, bb, par, ri', rb', rv', oi, os, ot, inp, lst, mad, vr, sav) → (wpX_measure post' (xit, xln, xrd, xop, xil, cnt, xml, wr, pc, pos, lim, bby, bl, sm, st, tkn, dep, beg, oc, plc, rch, xk, xf, xs, wh, aa, bb, par, ri, rb, rv, oi, os, ot, inp, lst, mad, vr, sav) (nI c))) → (wX_install_174 post (c + 1) (nI c - 1) xit xln xrd xop xil cnt xml wr pc pos lim bby bl sm st tkn dep beg oc plc rch xk xf xs wh aa bb par ri' rb' rv' oi os ot inp lst mad vr sav) → (wX_install_174 post (c + 1 + 1) (nI c) xit xln xrd xop xil cnt xml wr pc pos lim bby bl sm st tkn dep beg oc plc rch xk xf xs wh aa bb par ri rb rv oi os ot inp lst mad vr sav) :=
      fun post ri' rb' rv' M H => br_f (nI_pos (by omega)) (M _ (nm_r (Int32.sub_eq_add_neg ..).symm H))
    have NX : ∀ ri' rb' rv' : Nat → Int32, (∀ j, j ≠ c → ri' j = ri j ∧ rb' j = rb j ∧ rv' j = rv j) → (∃ r b v : Nat, ri' c = nI r ∧ c + r ≤ m ∧ (0 < r → rb' c = nI b ∧ rv' c = nI v) ∧ (r = 0 → b = 0 ∧ v = 0) ∧ b ≤ 4 * r ∧ v ≤ r ∧ fw_RO wh aa r c b v) → fw_rp wh aa ri' rb' rv' m c := by
      intro ri' rb' rv' F Q j h1 h2
      by_cases e : j = c
      · rw [e]; exact Q
      · obtain ⟨f1, f2, f3⟩ := F j e
        rw [f1, f2, f3]
        exact P j (by omega) h2
    by_cases hp : wh c = 0 ∨ wh c = 3
    · have hcm : c < m := by
        rcases Nat.lt_or_ge c m with h | h
        · exact h
        · have : c = m := by omega
          rw [this, h14] at hp
          exact absurd hp (by decide)
      obtain ⟨r, b, v, er, hrm, ebv, z0, hb, hv, RO⟩ := P (c + 1) (Nat.le_refl _) (by omega)
      obtain ⟨W, s, hk, hW, hs, ROk⟩ : ∃ W s : Nat, ((wh c = 0 ∧ aa c = nI W ∧ s = 1) ∨ (wh c = 3 ∧ W = 1 ∧ s = 0)) ∧ W ≤ 4 ∧ s ≤ 1 ∧ fw_RO wh aa (r + 1) c (b + W) (v + s) := by
        rcases hp with h | h
        · obtain ⟨W, w1, w4, ew⟩ := (hF c hcm).2.1 h
          exact ⟨W, 1, Or.inl ⟨h, ew, rfl⟩, w4, by omega, Or.inl ⟨h, W, b, v, ew, w1, w4, by omega, rfl, RO⟩⟩
        · exact ⟨1, 0, Or.inr ⟨h, rfl, rfl⟩, by omega, by omega, Or.inr ⟨h, b, rfl, RO⟩⟩
      obtain ⟨ri', rb', rv', a1, aX⟩ := ih (upd ri c (nI (r + 1))) (upd rb c (nI (b + W))) (upd rv c (nI (v + s))) (by omega) (NX _ _ _ (fun j hj => ⟨pk_un hj, pk_un hj, pk_un hj⟩) ⟨r + 1, b + W, v + s, pk_us, by omega, fun _ => ⟨pk_us, pk_us⟩, fun z => absurd z (by omega), by omega, by omega, ROk⟩)
      exact ⟨ri', rb', rv', a1, fun post H => STEP post _ _ _ (fun post' H' => xm_run (by omega) hk hW er (by omega) ebv z0 (by omega) (by omega) H') (aX post H)⟩
    · obtain ⟨ri', rb', rv', a1, aX⟩ := ih (upd ri c 0) rb rv (by omega) (NX _ _ _ (fun j hj => ⟨pk_un hj, rfl, rfl⟩) ⟨0, 0, 0, pk_us, by omega, fun z => absurd z (by omega), fun _ => ⟨rfl, rfl⟩, by omega, by omega, trivial⟩)
      exact ⟨ri', rb', rv', a1, fun post H => STEP post _ _ _ (fun post' H' => xm_no (by omega) (fun z => hp (Or.inl z)) (fun z => hp (Or.inr z)) H') (aX post H)⟩
/-! the reference's copy -/
theorem yn_copy {m : Nat} (hm : m ≤ 40) : ∀ d i (yk yf ys : Nat → Int32), i + d = m → (∀ j, j < i → yk j = yks j) → (∀ j, j < i → yf j = yas j) → (∀ j, j < i → ys j = ybs j) →
    ∃ (yk' yf' ys' : Nat → Int32), (∀ j, j < m → yk' j = yks j) ∧ (∀ j, j < m → yf' j = yas j) ∧ (∀ j, j < m → ys' j = ybs j) ∧
      (∀ post : Int32 → SY → Prop, post 0 (nI m, ysz, yfd, yls, ymd, ysa, ytk, ydp, yps, ybt, yst, yus, ynx, yra, yrd, yks, yas, ybs, yk', yf', ys', yin, yli, you, yva, yop, ynu, yse, yth) → (wY_compile_44 post (nI m) ysz yfd yls ymd ysa ytk ydp yps ybt yst yus ynx yra yrd (d + 1) (nI i) yks yas ybs yk yf ys yin yli you yva yop ynu yse yth)) := by
  intro d
  induction d with
  | zero =>
    intro i yk yf ys hi h1 h2 h3
    obtain rfl : i = m := by omega
    exact ⟨yk, yf, ys, h1, h2, h3, fun post H => br_t (Int32.le_refl _) H⟩
  | succ d ih =>
    intro i yk yf ys hi h1 h2 h3
    have hv : vp_in (nI i) 40 := vp_in_nI (by omega) (by decide)
    have ci : (nI i).toNatClampNeg = i := nI_clamp (by omega)
    obtain ⟨yk', yf', ys', a1, a2, a3, aY⟩ := ih (i + 1) (upd yk i (yks i)) (upd yf i (yas i)) (upd ys i (ybs i)) (by omega) (fw_app h1) (fw_app h2) (fw_app h3)
    exact ⟨yk', yf', ys', a1, a2, a3, fun post H => br_f (nI_ge (by omega) (by omega)) (And.intro hv (And.intro hv (nm_r (e' := upd yk i (yks i)) (by rw [ci]) (And.intro hv (And.intro hv (nm_r (e' := upd yf i (yas i)) (by rw [ci]) (And.intro hv (And.intro hv (nm_r (e' := upd ys i (ybs i)) (by rw [ci]) (nm_r (nI_1 i) (aY post H)))))))))))⟩
end
section
/-! compile -/
variable {xit xln xrd xop xil cnt xml wr pc pos lim bby bl sm st tkn dep beg oc plc rch : Int32} {xk xf xs wh aa bb par ri rb rv oi os ot inp lst mad vr sav : Nat → Int32} {yit ysz yfd yls ymd ysa ytk ydp yps ybt yst yus ynx yra yrd : Int32} {yks yas ybs yk yf ys yin yli you yva yop ynu yse yth : Nat → Int32}
theorem fw_wf_congr {K K' : Nat → Int32} {n : Nat} (h : ∀ j, j < n → K' j = K j) (w : fw_wf K n) : fw_wf K' n := by
  have E : ∀ i, i ≤ n → fw_st K' i = fw_st K i := fun i hi => fw_st_congr i (fun j hj => h j (by omega))
  refine ⟨fun i hi k => ?_, fun i hi k => ?_, fun i hi k => ?_, ?_⟩
  · rw [h i hi] at k
    obtain ⟨o, t, a, b⟩ := w.1 i hi k
    refine ⟨o, t, by rw [E i (by omega)]; exact a, ?_⟩
    rw [h o (by have := (fw_hd_lt a).1; omega)]; exact b
  · rw [h i hi] at k
    obtain ⟨o, t, a⟩ := w.2.1 i hi k
    exact ⟨o, t, by rw [E i (by omega)]; exact a⟩
  · rw [h i hi] at k
    rw [E i (by omega)]
    exact w.2.2.1 i hi k
  · rw [E n (Nat.le_refl _)]; exact w.2.2.2
theorem fw_PT_mk {K K' par : Nat → Int32} {n : Nat} (h : ∀ j, j < n → K' j = K j) (P : fw_pp K par n) : fw_PT K' par n := by
  have E : ∀ i, i ≤ n → fw_st K' i = fw_st K i := fun i hi => fw_st_congr i (fun j hj => h j (by omega))
  refine ⟨fun e he k => ?_, fun e he k => ?_⟩
  · rw [h e he] at k
    obtain ⟨o, t, a, b, c, _⟩ := P.1 e he k
    exact ⟨o, t, by rw [E e (by omega)]; exact a, b, c⟩
  · rw [h e he] at k
    obtain ⟨o, t, a, b, _⟩ := P.2 e he k
    exact ⟨o, t, by rw [E e (by omega)]; exact a, b⟩
theorem fw_RO_congr {K K' A A' : Nat → Int32} {n : Nat} (h : ∀ j, j < n → K' j = K j ∧ A' j = A j) : ∀ r i b v, i + r ≤ n → fw_RO K A r i b v → fw_RO K' A' r i b v
  | 0, _, _, _, _, _ => trivial
  | r + 1, i, b, v, hr, g => by
    obtain ⟨e1, e2⟩ := h i (by omega)
    rcases g with ⟨k, a, b', v', h1, h2, h3, h4, h5, h6⟩ | ⟨k, b', h1, h2⟩
    · exact Or.inl ⟨by rw [e1]; exact k, a, b', v', by rw [e2]; exact h1, h2, h3, h4, h5, fw_RO_congr h r (i + 1) b' v' (by omega) h6⟩
    · exact Or.inr ⟨by rw [e1]; exact k, b', h1, fw_RO_congr h r (i + 1) b' v (by omega) h2⟩
theorem fw_RI_mk {K K' A A' ri rb rv : Nat → Int32} {n : Nat} (hn : n ≤ 40) (h : ∀ j, j < n → K' j = K j ∧ A' j = A j) (P : fw_rp K A ri rb rv n 0) : fw_RI K' A' ri rb rv n := by
  intro i hi g
  obtain ⟨r, b, v, er, hr, ebv, _, hb, hv, RO⟩ := P i (Nat.zero_le _) hi
  have h2 : 2 ≤ r := by
    rcases Nat.lt_or_ge r 2 with q | q
    · refine absurd ?_ g
      rw [er]
      exact nI_le (b := 1) (by omega) (by decide)
    · exact q
  obtain ⟨e1, e2⟩ := ebv (by omega)
  exact ⟨r, b, v, er, h2, hr, e1, e2, by omega, by omega, fw_RO_congr h r i b v hr RO⟩
theorem i_vc_compile {k : Nat} {u : SX} {v : SY} (I : i_Rel k u v) (hk : k + 4 ≤ 2048) : wpX_compile (fun r u' => wpY_compile (fun r' v' => r' = r ∧ i_Rel (k + 4) u' v') v) u := by
  refine zz_el (P := fun u v => wpX_compile (fun r u' => wpY_compile (fun r' v' => r' = r ∧ i_Rel (k + 4) u' v') v) u) I ?_
  intro xit xln xrd xop xil cnt xml wr pc pos lim bby bl sm st tkn dep beg oc plc rch xk xf xs wh aa bb par ri rb rv oi os ot inp lst mad vr sav ysz yfd yls ymd ydp yps ybt yst yus ynx yra yrd yk yf ys yin you yop ynu yse yth R
  obtain ⟨⟨m, hm, rfl, hF⟩, R1⟩ := R
  have r1 : ∃ m' : Nat, m' ≤ 40 ∧ nI m = nI m' ∧ ∀ j, j < m' → fw_FV (xk j) (xf j) := ⟨m, hm, rfl, hF⟩
  obtain ⟨r, xop', oi', yop', hr, sX, sY⟩ := jj_struct (xln := xln) (xrd := xrd) (xil := xil) (cnt := cnt) (xml := xml) (wr := wr) (pc := pc) (pos := pos) (lim := lim) (bby := bby) (bl := bl) (sm := sm) (st := st) (tkn := tkn) (dep := dep) (beg := beg) (oc := oc) (plc := plc) (rch := rch) (xk := xk) (xf := xf) (xs := xs) (wh := wh) (aa := aa) (bb := bb) (par := par) (ri := ri) (rb := rb) (rv := rv) (os := os) (ot := ot) (inp := inp) (lst := lst) (mad := mad) (vr := vr) (sav := sav) (ysz := ysz) (yfd := yfd) (yls := yls) (ymd := ymd) (ysa := plc) (ytk := rch) (ydp := ydp) (yps := yps) (ybt := ybt) (yst := yst) (yus := yus) (ynx := ynx) (yra := yra) (yrd := yrd) (yas := xf) (ybs := xs) (yk := yk) (yf := yf) (ys := ys) (yin := yin) (yli := lst) (you := you) (yva := vr) (ynu := ynu) (yse := yse) (yth := yth) hm m 0 oi yop (by omega) (Nat.zero_le _) trivial trivial ⟨fun j hj => absurd hj (by omega), fun j hj => absurd hj (by omega), fun j hj => absurd hj (by omega)⟩
  refine ⟨m + 1, sX _ ?_⟩
  rcases hr with ⟨rfl, w⟩ | ⟨j, hj, rfl⟩
  rotate_left
  · exact br_f (nI_pos (by omega)) ⟨m + 1, sY _ (br_f (nI_pos (by omega)) ⟨rfl, zz_mk ⟨r1, R1⟩⟩)⟩
  obtain ⟨r, xop2, oi2, os2, ot2, yop2, yse2, yth2, hr, uX, uY⟩ := jj_unset (xln := xln) (xrd := xrd) (xil := xil) (cnt := cnt) (xml := xml) (wr := wr) (pc := pc) (pos := pos) (lim := lim) (bby := bby) (bl := bl) (sm := sm) (st := st) (tkn := tkn) (dep := dep) (beg := beg) (oc := oc) (plc := (-1)) (rch := rch) (xk := xk) (xf := xf) (xs := xs) (wh := wh) (aa := aa) (bb := bb) (par := par) (ri := ri) (rb := rb) (rv := rv) (inp := inp) (lst := lst) (mad := mad) (vr := vr) (sav := sav) (ysz := ysz) (yfd := yfd) (yls := yls) (ymd := ymd) (ysa := (-1)) (ytk := rch) (ydp := ydp) (yps := yps) (ybt := ybt) (yst := yst) (yus := yus) (ynx := ynx) (yra := yra) (yrd := yrd) (yas := xf) (yk := yk) (yf := yf) (ys := ys) (yin := yin) (yli := lst) (you := you) (yva := vr) (ynu := ynu) hm w hF m 0 0 oi' os ot yop' yse yth (by omega) (by decide : fw_sub 0 255)
  refine br_t (by decide) ⟨m + 1, uX _ ?_⟩
  rcases hr with rfl | ⟨j, hj, rfl⟩
  rotate_left
  · exact br_f (nI_pos (by omega)) ⟨m + 1, sY _ (br_t (by decide) ⟨m + 1, uY _ (br_f (nI_pos (by omega)) ⟨rfl, zz_mk ⟨r1, R1⟩⟩)⟩)⟩
  obtain ⟨wh', aa', bb', par', oi3, xop3, a1, a2, a3, a4, nX⟩ := xn_loop (xln := nI m) (xrd := 1) (xil := xil) (cnt := cnt) (xml := xml) (wr := wr) (pc := pc) (pos := pos) (lim := lim) (bby := bby) (bl := bl) (sm := sm) (st := st) (tkn := tkn) (dep := dep) (beg := beg) (oc := oc) (plc := (-1)) (rch := rch) (xk := xk) (xf := xf) (xs := xs) (ri := ri) (rb := rb) (rv := rv) (os := os2) (ot := ot2) (inp := inp) (lst := lst) (mad := mad) (vr := vr) (sav := sav) hm w hF m 0 wh aa bb par oi2 (by omega) (fun j hj => absurd hj (by omega)) (fun j hj => absurd hj (by omega)) (fun j hj => absurd hj (by omega)) trivial ⟨fun j hj => absurd hj (by omega), fun j hj => absurd hj (by omega)⟩
  have w1 : ∀ j, j < m → upd wh' m 14 j = xk j := fun j hj => by rw [pk_un (by omega)]; exact a1 j hj
  obtain ⟨ri', rb', rv', b1, mX⟩ := xm_loop (xit := nI m) (xln := nI m) (xrd := 1) (xop := xop3) (xil := xil) (cnt := cnt) (xml := xml) (wr := wr) (pc := pc) (pos := pos) (lim := lim) (bby := bby) (bl := bl) (sm := sm) (st := st) (tkn := tkn) (dep := dep) (beg := beg) (oc := oc) (plc := (-1)) (rch := rch) (xk := xk) (xf := xf) (xs := xs) (bb := bb') (par := par') (oi := oi3) (os := os2) (ot := ot2) (inp := inp) (lst := lst) (mad := mad) (vr := vr) (sav := sav) (wh := upd wh' m 14) (aa := aa') hm pk_us (fun j hj => by rw [w1 j hj, a2 j hj]; exact hF j hj) (m + 1) ri rb rv (by omega) (fun j h1 h2 => absurd h1 (by omega))
  rw [nI_pred] at mX
  obtain ⟨yk', yf', ys', c1, c2, c3, nY⟩ := yn_copy (ysz := nI m) (yfd := yfd) (yls := yls) (ymd := ymd) (ysa := (-1)) (ytk := rch) (ydp := ydp) (yps := yps) (ybt := ybt) (yst := yst) (yus := yus) (ynx := ynx) (yra := yra) (yrd := yrd) (yks := xk) (yas := xf) (ybs := xs) (yin := yin) (yli := lst) (you := you) (yva := vr) (yop := yop2) (ynu := ynu) (yse := yse2) (yth := yth2) hm m 0 yk yf ys (by omega) (fun j hj => absurd hj (by omega)) (fun j hj => absurd hj (by omega)) (fun j hj => absurd hj (by omega))
  refine br_t (by decide) ⟨m + 1, nX _ ⟨m + 1 + 1, mX _ ?_⟩⟩
  refine ⟨m + 1, sY _ (br_t (by decide) ⟨m + 1, uY _ (br_t (by decide) ⟨m + 1, nY _ ⟨rfl, zz_mk ⟨r1, R1.1, R1.2.1, R1.2.2.1, R1.2.2.2.1, Or.inr ⟨rfl, m, rfl, ?_⟩⟩⟩⟩)⟩)⟩
  refine ⟨hm, fun j hj => ⟨by rw [w1 j hj, c1 j hj], by rw [a2 j hj, c2 j hj], by rw [a3 j hj, c3 j hj], by rw [c1 j hj, c2 j hj]; exact hF j hj⟩, pk_us, fw_wf_congr c1 w, fw_PT_mk c1 a4, fw_RI_mk hm (fun j hj => ⟨by rw [w1 j hj, c1 j hj], by rw [a2 j hj, c2 j hj]⟩) b1⟩
end
