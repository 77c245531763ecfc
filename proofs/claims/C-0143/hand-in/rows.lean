section
/-! rows of the kit's PURE-ROWS and BITS, pasted -/
theorem pk_us {f : Nat → Int32} {k : Nat} {x : Int32} : upd f k x k = x := if_pos rfl
theorem pk_un {f : Nat → Int32} {k j : Nat} {x : Int32} (h : j ≠ k) : upd f k x j = f j := if_neg h
theorem pk_uLs {f : Nat → Int64} {k : Nat} {x : Int64} : vp_updL f k x k = x := if_pos rfl
theorem pk_uLn {f : Nat → Int64} {k j : Nat} {x : Int64} (h : j ≠ k) : vp_updL f k x j = f j := if_neg h
theorem pk_sub {a b : Nat} (h : b ≤ a) : nI a - nI b = nI (a - b) := by
  obtain ⟨c, rfl⟩ : ∃ c, a = c + b := ⟨a - b, by omega⟩
  rw [← nI_add, Int32.add_sub_cancel, Nat.add_sub_cancel]
theorem pk_m1 (n : Nat) : nI (n + 1) + (-1) = nI n := by
  rw [← nI_1, Int32.add_assoc, show (1 : Int32) + (-1) = 0 from rfl, Int32.add_zero]
theorem pk_mul (a b : Nat) : nI a * nI b = nI (a * b) := (Int32.ofNat_mul a b).symm
theorem pk_le {x y : Int32} {A B : Prop} (a b : Nat) (f : a ≤ b → A) (g : b < a → B) (hx : x = nI a := by rfl) (hy : y = nI b := by rfl) (ha : a < 2 ^ 31 := by omega) (hb : b < 2 ^ 31 := by omega) : (x ≤ y → A) ∧ (¬ x ≤ y → B) := by
  subst hx hy
  rw [nI_leI ha hb]
  exact ⟨f, fun z => g (by omega)⟩
theorem pk_lt {x y : Int32} {A B : Prop} (a b : Nat) (f : a < b → A) (g : b ≤ a → B) (hx : x = nI a := by rfl) (hy : y = nI b := by rfl) (ha : a < 2 ^ 31 := by omega) (hb : b < 2 ^ 31 := by omega) : (x < y → A) ∧ (¬ x < y → B) := by
  subst hx hy
  rw [nI_ltI ha hb]
  exact ⟨f, fun z => g (by omega)⟩
theorem pk_eq {x y : Int32} {A B : Prop} (a b : Nat) (f : a = b → A) (g : a ≠ b → B) (hx : x = nI a := by rfl) (hy : y = nI b := by rfl) (ha : a < 2 ^ 31 := by omega) (hb : b < 2 ^ 31 := by omega) : (x = y → A) ∧ (¬ x = y → B) := by
  subst hx hy
  rw [nI_eq ha hb]
  exact ⟨f, g⟩
theorem pk_in {x : Int32} (n N : Nat) (h : n < N) (hx : x = nI n := by rfl) (hN : N < 2 ^ 31 := by omega) : vp_in x N := by
  subst hx
  exact vp_in_nI h hN
theorem pk_cl {x : Int32} (n : Nat) (hx : x = nI n := by rfl) (h : n < 2 ^ 31 := by omega) : x.toNatClampNeg = n := by
  subst hx
  exact nI_clamp h
theorem pk_tn {n : Nat} (h : n < 2 ^ 32) : (nI n).toBitVec.toNat = n := Nat.mod_eq_of_lt h
theorem pk_and (x : Int32) {m : Int32} (k : Nat) (hm : m.toBitVec.toNat = 2 ^ k - 1) : x &&& m = nI (x.toBitVec.toNat % 2 ^ k) := by
  apply Int32.toBitVec_inj.mp
  apply BitVec.eq_of_toNat_eq
  rw [Int32.toBitVec_and, BitVec.toNat_and, hm, Nat.and_two_pow_sub_one_eq_mod]
  show _ = (BitVec.ofNat 32 _).toNat
  rw [BitVec.toNat_ofNat]
  exact (Nat.mod_eq_of_lt (Nat.lt_of_le_of_lt (Nat.mod_le _ _) x.toBitVec.isLt)).symm
theorem pk_andN {n : Nat} (h : n < 2 ^ 32) {m : Int32} (k : Nat) (hm : m.toBitVec.toNat = 2 ^ k - 1) : nI n &&& m = nI (n % 2 ^ k) := by
  rw [pk_and _ k hm, pk_tn h]
theorem pk_shl (a s : Int32) (k : Nat) (hs : (s.toBitVec.smod 32).toNat = k) : (a <<< s).toBitVec.toNat = a.toBitVec.toNat * 2 ^ k % 2 ^ 32 := by
  show (a.toBitVec <<< (s.toBitVec.smod 32).toNat).toNat = _
  rw [hs, BitVec.toNat_shiftLeft, Nat.shiftLeft_eq]
theorem pk_shlN {n : Nat} (s : Int32) (k : Nat) (hs : (s.toBitVec.smod 32).toNat = k) (h : n * 2 ^ k < 2 ^ 32) : nI n <<< s = nI (n * 2 ^ k) := by
  apply Int32.toBitVec_inj.mp
  apply BitVec.eq_of_toNat_eq
  have hn : n < 2 ^ 32 := Nat.lt_of_le_of_lt (Nat.le_mul_of_pos_right n (Nat.two_pow_pos k)) h
  rw [pk_shl _ _ k hs, pk_tn hn, pk_tn h, Nat.mod_eq_of_lt h]
theorem pk_shr (a s : Int32) (k : Nat) (hs : (s.toBitVec.smod 32).toNat = k) : (a >>> s).toInt = a.toInt >>> k := by
  show (a.toBitVec.sshiftRight (s.toBitVec.smod 32).toNat).toInt = _
  rw [hs, BitVec.toInt_sshiftRight]
  rfl
theorem pk_shrN {n : Nat} (h : n < 2 ^ 31) (s : Int32) (k : Nat) (hs : (s.toBitVec.smod 32).toNat = k) : nI n >>> s = nI (n / 2 ^ k) := by
  apply Int32.toInt_inj.mp
  have h2 : n / 2 ^ k ≤ n := Nat.div_le_self _ _
  rw [pk_shr _ _ k hs, nI_toInt h, nI_toInt (by omega), Int.shiftRight_eq_div_pow]
  rfl
theorem pk_loop {σ : Type} (W : Nat → Nat → σ → Prop) (I : Nat → σ → Prop) (e i0 : Nat) (s : σ) (hi : i0 ≤ e) (h0 : I i0 s) (hx : ∀ n s, I e s → W (n + 1) e s)
    (hs : ∀ n i s, i < e → I i s → (∀ s', I (i + 1) s' → W n (i + 1) s') → W (n + 1) i s) : ∃ n, W n i0 s :=
  ⟨e + 1, loop_i W I e hx hs (e + 1) i0 s hi (by omega) h0⟩
theorem ts_nf {x : Bool} (h : ¬ x = false) : x = true := by cases x <;> first | rfl | exact absurd rfl h
theorem ts_nt {x : Bool} (h : ¬ x = true) : x = false := by cases x <;> first | rfl | exact absurd rfl h
theorem wb_tb (n : Nat) : (lN n).toBitVec = BitVec.ofNat 64 n := rfl
theorem wb_inj {a b : Int64} (h : a.toBitVec = b.toBitVec) : a = b := Int64.toBitVec_inj.mp h
theorem wb_c : ∀ k, k < 64 → ((nI k).toInt64 &&& 63) = lN k := by decide +kernel
theorem wb_cu : ∀ k, k < 64 → ((nI k).toInt64.toUInt64 &&& Int64.toUInt64 63) = UInt64.ofNat k := by decide +kernel
theorem wb_sm : ∀ k, k < 64 → (BitVec.ofNat 64 k).smod 64 = BitVec.ofNat 64 k := by decide +kernel
end
section
/-! Int64 as a set of bits -/
def tg_b (x : Int64) (i : Nat) : Bool := x.toBitVec.getLsbD i
theorem tg_ext {x y : Int64} (h : ∀ i, i < 64 → tg_b x i = tg_b y i) : x = y := Int64.toBitVec_inj.mp (BitVec.eq_of_getLsbD_eq (fun i hi => h i hi))
theorem tg_exti {x y : Int64} (h : ∀ i, tg_b x i = true ↔ tg_b y i = true) : x = y := tg_ext (fun i _ => by
  have := h i
  cases hx : tg_b x i <;> cases hy : tg_b y i <;> simp_all)
theorem tg_or (x y : Int64) (i : Nat) : tg_b (x ||| y) i = (tg_b x i || tg_b y i) := by unfold tg_b; rw [Int64.toBitVec_or, BitVec.getLsbD_or]
theorem tg_ori (x y : Int64) (i : Nat) : tg_b (x ||| y) i = true ↔ (tg_b x i = true ∨ tg_b y i = true) := by rw [tg_or, Bool.or_eq_true]
theorem tg_and (x y : Int64) (i : Nat) : tg_b (x &&& y) i = (tg_b x i && tg_b y i) := by unfold tg_b; rw [Int64.toBitVec_and, BitVec.getLsbD_and]
theorem tg_big {x : Int64} {i : Nat} (h : 64 ≤ i) : tg_b x i = false := BitVec.getLsbD_of_ge _ _ h
theorem tg_lt {x : Int64} {i : Nat} (h : tg_b x i = true) : i < 64 := by
  rcases Nat.lt_or_ge i 64 with z | z
  · exact z
  · rw [tg_big z] at h; exact absurd h (by decide)
theorem tg_0 (i : Nat) : tg_b 0 i = false := BitVec.getLsbD_zero
theorem tg_0n {i : Nat} : ¬ tg_b 0 i = true := by rw [tg_0]; decide
theorem tg_smk {k : Nat} (hk : k < 64) : (((nI k).toInt64 &&& 63).toBitVec.smod 64).toNat = k := by
  rw [wb_c k hk, wb_tb, wb_sm k hk, BitVec.toNat_ofNat, Nat.mod_eq_of_lt (by omega)]
theorem tg_shl (x : Int64) {k : Nat} (hk : k < 64) (i : Nat) : tg_b (x <<< ((nI k).toInt64 &&& 63)) i = (decide (i < 64) && (decide (k ≤ i) && tg_b x (i - k))) := by
  show (x.toBitVec <<< (((nI k).toInt64 &&& 63).toBitVec.smod 64).toNat).getLsbD i = _
  rw [tg_smk hk, BitVec.getLsbD_shiftLeft]
  rcases Nat.lt_or_ge i k with h | h
  · simp [h, Nat.not_le.mpr h]
  · simp [h, Nat.not_lt.mpr h, tg_b]
theorem tg_1i (i : Nat) : tg_b 1 i = decide (i = 0) := by
  rcases Nat.lt_or_ge i 64 with h | h
  · exact (by decide +kernel : ∀ i, i < 64 → tg_b 1 i = decide (i = 0)) i h
  · rw [tg_big h, decide_eq_false (by omega)]
theorem tg_2i (i : Nat) : tg_b 2 i = decide (i = 1) := by
  rcases Nat.lt_or_ge i 64 with h | h
  · exact (by decide +kernel : ∀ i, i < 64 → tg_b 2 i = decide (i = 1)) i h
  · rw [tg_big h, decide_eq_false (by omega)]
theorem tg_63i (i : Nat) : tg_b 63 i = decide (i < 6) := by
  rcases Nat.lt_or_ge i 64 with h | h
  · exact (by decide +kernel : ∀ i, i < 64 → tg_b 63 i = decide (i < 6)) i h
  · rw [tg_big h, decide_eq_false (by omega)]
theorem tg_one {k : Nat} (hk : k < 64) (i : Nat) : tg_b ((1 : Int64) <<< ((nI k).toInt64 &&& 63)) i = true ↔ i = k := by
  rw [tg_shl _ hk, tg_1i]
  simp only [Bool.and_eq_true, decide_eq_true_eq]
  omega
theorem tg_two {k : Nat} (hk : k < 62) (i : Nat) : tg_b ((2 : Int64) <<< ((nI k).toInt64 &&& 63)) i = true ↔ i = k + 1 := by
  rw [tg_shl _ (by omega), tg_2i]
  simp only [Bool.and_eq_true, decide_eq_true_eq]
  omega
theorem tg_ush (x : Int64) {k : Nat} (hk : k < 64) (i : Nat) : tg_b ((x.toUInt64 >>> ((nI k).toInt64.toUInt64 &&& Int64.toUInt64 63)).toInt64) i = tg_b x (k + i) := by
  rw [wb_cu k hk]
  have e : (x.toUInt64 >>> UInt64.ofNat k).toInt64.toBitVec = x.toBitVec >>> k := by
    apply BitVec.eq_of_toNat_eq
    show (x.toUInt64 >>> UInt64.ofNat k).toNat = _
    have h1 : (UInt64.ofNat k).toNat = k := by
      show (BitVec.ofNat 64 k).toNat = k
      rw [BitVec.toNat_ofNat, Nat.mod_eq_of_lt (by omega)]
    rw [UInt64.toNat_shiftRight, h1, Nat.mod_eq_of_lt hk, BitVec.toNat_ushiftRight]
    rfl
  unfold tg_b
  rw [e, BitVec.getLsbD_ushiftRight]
theorem tg_and1 (y : Int64) : (y &&& 1) = 1 ↔ tg_b y 0 = true := by
  constructor
  · intro h
    have t := congrArg (fun x => tg_b x 0) h
    rw [tg_and, tg_1i] at t
    simpa using t
  · intro h
    apply tg_ext
    intro i _
    rw [tg_and, tg_1i]
    by_cases e : i = 0
    · subst e; rw [h]; rfl
    · simp [e]
theorem tg_ubit (x : Int64) {k : Nat} (hk : k < 64) : (((x.toUInt64 >>> ((nI k).toInt64.toUInt64 &&& Int64.toUInt64 63)).toInt64) &&& 1) = 1 ↔ tg_b x k = true := by
  rw [tg_and1, tg_ush x hk]
  exact Iff.rfl
theorem tg_sbit (x : Int64) {k : Nat} (hk : k < 64) : ((x >>> ((nI k).toInt64 &&& 63)) &&& 1) = 1 ↔ tg_b x k = true := by
  rw [tg_and1]
  have e : tg_b (x >>> ((nI k).toInt64 &&& 63)) 0 = tg_b x k := by
    show (x.toBitVec.sshiftRight (((nI k).toInt64 &&& 63).toBitVec.smod 64).toNat).getLsbD 0 = _
    rw [tg_smk hk, BitVec.getLsbD_sshiftRight]
    simp [hk, tg_b]
  rw [e]
theorem tg_and63 (x : Int64) (i : Nat) : tg_b (x &&& 63) i = true ↔ (i < 6 ∧ tg_b x i = true) := by
  rw [tg_and, tg_63i]
  simp only [Bool.and_eq_true, decide_eq_true_eq]
  exact And.comm
theorem tg_updS {f : Nat → Int64} {k : Nat} {x : Int64} (h : x = f k) : vp_updL f k x = f := by
  funext j
  unfold vp_updL
  by_cases e : j = k
  · rw [if_pos e, e, h]
  · rw [if_neg e]
theorem tg_bz : vp_nar .boolean 0 = 0 ∧ vp_nar .boolean 1 = 1 := ⟨rfl, rfl⟩
/-! a search loop: from i to e for an index with P -/
theorem tg_srch (W : Nat → Nat → Prop) (P : Nat → Prop) (e lo : Nat) (p1 p0 : Prop) (hx : ∀ n, p0 → W (n + 1) e)
    (hs : ∀ n i, lo ≤ i → i < e → (P i → p1) → (¬ P i → W n (i + 1)) → W (n + 1) i) :
    ∀ d i n, lo ≤ i → i + d = e → d < n → ((∃ j, i ≤ j ∧ j < e ∧ P j) → p1) → ((¬ ∃ j, i ≤ j ∧ j < e ∧ P j) → p0) → W n i := by
  intro d
  induction d with
  | zero =>
    intro i n hl hi hn _ h0
    obtain ⟨m, rfl⟩ : ∃ m, n = m + 1 := ⟨n - 1, by omega⟩
    obtain rfl : i = e := by omega
    exact hx m (h0 (fun ⟨j, a, b, _⟩ => by omega))
  | succ d ih =>
    intro i n hl hi hn h1 h0
    obtain ⟨m, rfl⟩ : ∃ m, n = m + 1 := ⟨n - 1, by omega⟩
    refine hs m i hl (by omega) (fun p => h1 ⟨i, Nat.le_refl i, by omega, p⟩) (fun np => ?_)
    refine ih (i + 1) m (by omega) (by omega) (by omega) (fun ⟨j, a, b, c⟩ => h1 ⟨j, by omega, b, c⟩) (fun hn => h0 (fun ⟨j, a, b, c⟩ => ?_))
    by_cases z : j = i
    · exact np (z ▸ c)
    · exact hn ⟨j, by omega, b, c⟩
theorem tg_srchE (W : Nat → Nat → Prop) (P : Nat → Prop) (e i : Nat) (p1 p0 : Prop) (hi : i ≤ e) (hx : ∀ n, p0 → W (n + 1) e)
    (hs : ∀ n j, i ≤ j → j < e → (P j → p1) → (¬ P j → W n (j + 1)) → W (n + 1) j) (h1 : (∃ j, i ≤ j ∧ j < e ∧ P j) → p1) (h0 : (¬ ∃ j, i ≤ j ∧ j < e ∧ P j) → p0) : ∃ n, W n i :=
  ⟨e - i + 1, tg_srch W P e i p1 p0 hx hs (e - i) i _ (Nat.le_refl i) (by omega) (by omega) h1 h0⟩
/-! counting -/
def tg_nc (P : Nat → Bool) : Nat → Nat
  | 0 => 0
  | n + 1 => tg_nc P n + (if P n then 1 else 0)
theorem tg_nc_le (P : Nat → Bool) : ∀ n, tg_nc P n ≤ n := by
  intro n
  induction n with
  | zero => exact Nat.le_refl 0
  | succ n ih =>
    show tg_nc P n + (if P n then 1 else 0) ≤ n + 1
    split <;> omega
theorem tg_nc_mono {P Q : Nat → Bool} : ∀ n, (∀ i, i < n → P i = true → Q i = true) → tg_nc P n ≤ tg_nc Q n := by
  intro n
  induction n with
  | zero => intro _; exact Nat.le_refl 0
  | succ n ih =>
    intro h
    have a := ih (fun i hi => h i (by omega))
    show tg_nc P n + (if P n then 1 else 0) ≤ tg_nc Q n + (if Q n then 1 else 0)
    have b := h n (by omega)
    by_cases p : P n = true
    · rw [if_pos p, if_pos (b p)]; omega
    · rw [if_neg p]; omega
theorem tg_nc_lt {P Q : Nat → Bool} : ∀ n, (∀ i, i < n → P i = true → Q i = true) → (∃ i, i < n ∧ Q i = true ∧ ¬ P i = true) → tg_nc P n < tg_nc Q n := by
  intro n
  induction n with
  | zero => intro _ ⟨i, hi, _⟩; omega
  | succ n ih =>
    intro h ⟨i, hi, hq, hp⟩
    show tg_nc P n + (if P n then 1 else 0) < tg_nc Q n + (if Q n then 1 else 0)
    by_cases e : i = n
    · subst e
      have a := tg_nc_mono (P := P) (Q := Q) i (fun j hj => h j (by omega))
      rw [if_neg hp, if_pos hq]; omega
    · have a := ih (fun j hj => h j (by omega)) ⟨i, by omega, hq, hp⟩
      have b := h n (by omega)
      by_cases p : P n = true
      · rw [if_pos p, if_pos (b p)]; omega
      · rw [if_neg p]; omega
theorem tg_nc_add (P : Nat → Bool) (n : Nat) : ∀ m, tg_nc P (n + m) = tg_nc P n + tg_nc (fun i => P (n + i)) m := by
  intro m
  induction m with
  | zero => rfl
  | succ m ih =>
    show tg_nc P (n + m) + (if P (n + m) then 1 else 0) = tg_nc P n + (tg_nc (fun i => P (n + i)) m + (if P (n + m) then 1 else 0))
    rw [ih]; omega
theorem tg_nc_blk (P : Nat → Bool) (B C : Nat) : ∀ k, (∀ x, x < k → tg_nc (fun i => P (x * B + i)) B ≤ C) → tg_nc P (k * B) ≤ k * C := by
  intro k
  induction k with
  | zero => intro _; simp [tg_nc]
  | succ k ih =>
    intro h
    rw [Nat.succ_mul, Nat.succ_mul, tg_nc_add]
    have a := ih (fun x hx => h x (by omega))
    have b := h k (by omega)
    omega
end
section
/-! words by their numbers: 2^len - 1 + bits -/
def tg_wl (w : Nat) : Nat := if w < 1 then 0 else if w < 3 then 1 else if w < 7 then 2 else if w < 15 then 3 else if w < 31 then 4 else 5
def tg_pt (w i j : Nat) : Nat := 2 ^ (j - i) - 1 + (w + 1 - 2 ^ tg_wl w) / 2 ^ (tg_wl w - j) % 2 ^ (j - i)
def tg_wo (w i j : Nat) : Nat := 2 ^ (tg_wl w - j + i) - 1 + (w + 1 - 2 ^ tg_wl w) / 2 ^ (tg_wl w - i) * 2 ^ (tg_wl w - j) + (w + 1 - 2 ^ tg_wl w) % 2 ^ (tg_wl w - j)
def tg_pr (w i p q j : Nat) : Nat := tg_wo (tg_pt w i j) (p - i) (q - i)
theorem tg_wl5 (w : Nat) : tg_wl w ≤ 5 := by unfold tg_wl; repeat (first | omega | split)
theorem tg_wl0 {w : Nat} : tg_wl w = 0 ↔ w = 0 := by
  unfold tg_wl
  by_cases h : w < 1
  · rw [if_pos h]; omega
  · rw [if_neg h]; constructor
    · intro z; repeat (first | omega | split at z)
    · intro z; omega
def tg_all : Nat → (Nat → Bool) → Bool
  | 0, _ => true
  | n + 1, f => f n && tg_all n f
theorem tg_all_i {f : Nat → Bool} : ∀ {n : Nat}, tg_all n f = true → ∀ {i : Nat}, i < n → f i = true := by
  intro n
  induction n with
  | zero => intro _ i hi; omega
  | succ n ih =>
    intro h i hi
    have h' : (f n && tg_all n f) = true := h
    rw [Bool.and_eq_true] at h'
    by_cases e : i = n
    · rw [e]; exact h'.1
    · exact ih h'.2 (by omega)
theorem tg_F1 : ∀ w, w < 63 → ∀ j, j < tg_wl w + 1 → ∀ i, i < j + 1 → tg_pt w i j < 63 ∧ tg_wl (tg_pt w i j) = j - i := by decide +kernel
theorem tg_F2 : ∀ w, w < 63 → ∀ j, j < tg_wl w + 1 → ∀ b, b < j + 1 → ∀ a, a < b + 1 → ∀ i, i < a + 1 → tg_pt (tg_pt w i j) (a - i) (b - i) = tg_pt w a b := by
  have : (tg_all (63) fun w => tg_all (tg_wl w + 1) fun j => tg_all (j + 1) fun b => tg_all (b + 1) fun a => tg_all (a + 1) fun i => decide (tg_pt (tg_pt w i j) (a - i) (b - i) = tg_pt w a b)) = true := by decide +kernel
  exact fun w hw j hj b hb a ha i hi => of_decide_eq_true (tg_all_i (tg_all_i (tg_all_i (tg_all_i (tg_all_i this hw) hj) hb) ha) hi)
theorem tg_F3 : ∀ w, w < 63 → ∀ j, j < tg_wl w + 1 → ∀ q, q < j + 1 → ∀ p, p < q + 1 → ∀ i, i < p + 1 → tg_pr w i p q j < 63 ∧ tg_wl (tg_pr w i p q j) = (p - i) + (j - q) := by
  have : (tg_all (63) fun w => tg_all (tg_wl w + 1) fun j => tg_all (j + 1) fun q => tg_all (q + 1) fun p => tg_all (p + 1) fun i => decide (tg_pr w i p q j < 63 ∧ tg_wl (tg_pr w i p q j) = (p - i) + (j - q))) = true := by decide +kernel
  exact fun w hw j hj q hq p hp i hi => of_decide_eq_true (tg_all_i (tg_all_i (tg_all_i (tg_all_i (tg_all_i this hw) hj) hq) hp) hi)
theorem tg_F4 : ∀ w, w < 63 → ∀ j, j < tg_wl w + 1 → ∀ m, m < j + 1 → ∀ q, q < m + 1 → ∀ p, p < q + 1 → ∀ i, i < p + 1 →
    tg_pt (tg_pr w i p q j) 0 ((p - i) + (m - q)) = tg_pr w i p q m ∧ tg_pt (tg_pr w i p q j) ((p - i) + (m - q)) ((p - i) + (j - q)) = tg_pt w m j := by
  have : (tg_all (63) fun w => tg_all (tg_wl w + 1) fun j => tg_all (j + 1) fun m => tg_all (m + 1) fun q => tg_all (q + 1) fun p => tg_all (p + 1) fun i => decide (tg_pt (tg_pr w i p q j) 0 ((p - i) + (m - q)) = tg_pr w i p q m ∧ tg_pt (tg_pr w i p q j) ((p - i) + (m - q)) ((p - i) + (j - q)) = tg_pt w m j)) = true := by decide +kernel
  exact fun w hw j hj m hm q hq p hp i hi => of_decide_eq_true (tg_all_i (tg_all_i (tg_all_i (tg_all_i (tg_all_i (tg_all_i this hw) hj) hm) hq) hp) hi)
theorem tg_F5 : ∀ w, w < 63 → ∀ j, j < tg_wl w + 1 → ∀ q, q < j + 1 → ∀ p, p < q + 1 → ∀ m, m < p + 1 → ∀ i, i < m + 1 →
    tg_pt (tg_pr w i p q j) 0 (m - i) = tg_pt w i m ∧ tg_pt (tg_pr w i p q j) (m - i) ((p - i) + (j - q)) = tg_pr w m p q j := by
  have : (tg_all (63) fun w => tg_all (tg_wl w + 1) fun j => tg_all (j + 1) fun q => tg_all (q + 1) fun p => tg_all (p + 1) fun m => tg_all (m + 1) fun i => decide (tg_pt (tg_pr w i p q j) 0 (m - i) = tg_pt w i m ∧ tg_pt (tg_pr w i p q j) (m - i) ((p - i) + (j - q)) = tg_pr w m p q j)) = true := by decide +kernel
  exact fun w hw j hj q hq p hp m hm i hi => of_decide_eq_true (tg_all_i (tg_all_i (tg_all_i (tg_all_i (tg_all_i (tg_all_i this hw) hj) hq) hp) hm) hi)
theorem tg_F6a : ∀ w, w < 63 → ∀ j, j < tg_wl w + 1 → ∀ b, b < j + 1 → ∀ q, q < b + 1 → ∀ p, p < q + 1 → ∀ a, a < p + 1 → ∀ i, i < a + 1 →
    tg_pt (tg_pr w i p q j) (a - i) ((p - i) + (b - q)) = tg_pr w a p q b := by
  have : (tg_all (63) fun w => tg_all (tg_wl w + 1) fun j => tg_all (j + 1) fun b => tg_all (b + 1) fun q => tg_all (q + 1) fun p => tg_all (p + 1) fun a => tg_all (a + 1) fun i => decide (tg_pt (tg_pr w i p q j) (a - i) ((p - i) + (b - q)) = tg_pr w a p q b)) = true := by decide +kernel
  exact fun w hw j hj b hb q hq p hp a ha i hi => of_decide_eq_true (tg_all_i (tg_all_i (tg_all_i (tg_all_i (tg_all_i (tg_all_i (tg_all_i this hw) hj) hb) hq) hp) ha) hi)
theorem tg_F6b : ∀ w, w < 63 → ∀ j, j < tg_wl w + 1 → ∀ b, b < j + 1 → ∀ q, q < b + 1 → ∀ p, p < q + 1 → ∀ a, a < p + 1 → ∀ i, i < a + 1 →
    tg_wo (tg_pr w i p q j) (a - i) ((p - i) + (b - q)) = tg_pr w i a b j := by
  have : (tg_all (63) fun w => tg_all (tg_wl w + 1) fun j => tg_all (j + 1) fun b => tg_all (b + 1) fun q => tg_all (q + 1) fun p => tg_all (p + 1) fun a => tg_all (a + 1) fun i => decide (tg_wo (tg_pr w i p q j) (a - i) ((p - i) + (b - q)) = tg_pr w i a b j)) = true := by decide +kernel
  exact fun w hw j hj b hb q hq p hp a ha i hi => of_decide_eq_true (tg_all_i (tg_all_i (tg_all_i (tg_all_i (tg_all_i (tg_all_i (tg_all_i this hw) hj) hb) hq) hp) ha) hi)
theorem tg_F9 : ∀ w, w < 63 → tg_pt w 0 (tg_wl w) = w ∧ ∀ k, k < tg_wl w + 1 → tg_pr w 0 k k (tg_wl w) = w := by decide +kernel
/-- the parts of a word are words -/
theorem tg_Fw : ∀ w, w < 63 → ∀ j, j < tg_wl w + 1 → ∀ i, i < j + 1 → tg_wo w i j < 63 ∧ tg_wl (tg_wo w i j) = tg_wl w - j + i := by decide +kernel
theorem tg_pt1 {w i : Nat} : tg_pt w i (i + 1) = 1 + (w + 1 - 2 ^ tg_wl w) / 2 ^ (tg_wl w - (i + 1)) % 2 := by
  unfold tg_pt
  rw [show i + 1 - i = 1 by omega]
theorem tg_kw : ∀ k, k < 6 → ∀ w, w < 63 → (k ≤ tg_wl w ↔ 2 ^ k - 1 ≤ w) := by decide +kernel
theorem tg_num : ∀ n, n < 6 → ∀ b, b < 2 ^ n → 2 ^ n - 1 + b < 63 ∧ tg_wl (2 ^ n - 1 + b) = n ∧ (2 ^ n - 1 + b) + 1 - 2 ^ n = b := by decide +kernel
end
section
/-! the rules. A node is a function: 0 kind (the reference's), 1 label, 2 first, 3 second, 4 fixed, 5 footed -/
def tg_SW (Sp : Nat → Nat → Nat → Prop) (T : Nat) (G : Nat → Nat → Nat) (R : Nat → Nat) (a k w : Nat) : Prop :=
  ∃ t, t < T ∧ G (R t) 5 = 1 ∧ G (R t) 1 = a ∧ Sp (R t) k w
def tg_BW (Sw : Nat → Nat → Prop) (T : Nat) (G : Nat → Nat → Nat) (R : Nat → Nat) (a w : Nat) : Prop :=
  ∃ t, t < T ∧ G (R t) 5 = 0 ∧ G (R t) 1 = a ∧ Sw (R t) w
def tg_Jn (Sw : Nat → Nat → Prop) (x y w : Nat) : Prop := ∃ i, i < tg_wl w + 1 ∧ Sw x (tg_pt w 0 i) ∧ Sw y (tg_pt w i (tg_wl w))
def tg_In (Sw : Nat → Nat → Prop) (G : Nat → Nat → Nat) (v w : Nat) : Prop :=
  (G v 0 = 5 ∧ Sw (G v 2) w) ∨ (G v 0 = 6 ∧ tg_Jn Sw (G v 2) (G v 3) w)
def tg_Wr (In : Nat → Prop) (Sp : Nat → Nat → Nat → Prop) (T : Nat) (G : Nat → Nat → Nat) (R : Nat → Nat) (a w : Nat) : Prop :=
  ∃ i, i < tg_wl w + 1 ∧ ∃ j, i ≤ j ∧ j < tg_wl w + 1 ∧ In (tg_pt w i j) ∧ tg_SW Sp T G R a i (tg_wo w i j)
def tg_W (Sw : Nat → Nat → Prop) (Sp : Nat → Nat → Nat → Prop) (T : Nat) (G : Nat → Nat → Nat) (R : Nat → Nat) (v w : Nat) : Prop :=
  (G v 0 < 2 ∧ w = G v 0 + 1) ∨ (G v 0 = 2 ∧ w = 0) ∨ (G v 0 = 3 ∧ tg_BW Sw T G R (G v 1) w) ∨
  (5 ≤ G v 0 ∧ (tg_In Sw G v w ∨ (G v 4 = 0 ∧ tg_Wr (tg_In Sw G v) Sp T G R (G v 1) w)))
def tg_Fk (Sw : Nat → Nat → Prop) (Sp : Nat → Nat → Nat → Prop) (G : Nat → Nat → Nat) (x y k w : Nat) : Prop :=
  ∃ c, c < tg_wl w + 1 ∧ ((G x 5 = 1 ∧ k ≤ c ∧ Sp x k (tg_pt w 0 c) ∧ Sw y (tg_pt w c (tg_wl w))) ∨
    (G x 5 = 0 ∧ c ≤ k ∧ Sw x (tg_pt w 0 c) ∧ Sp y (k - c) (tg_pt w c (tg_wl w))))
def tg_IP (Sw : Nat → Nat → Prop) (Sp : Nat → Nat → Nat → Prop) (G : Nat → Nat → Nat) (v k w : Nat) : Prop :=
  (G v 0 = 4 ∧ w = 0) ∨ (G v 0 = 5 ∧ Sp (G v 2) k w) ∨ (G v 0 = 6 ∧ tg_Fk Sw Sp G (G v 2) (G v 3) k w)
def tg_WP (Sw : Nat → Nat → Prop) (Sp : Nat → Nat → Nat → Prop) (T : Nat) (G : Nat → Nat → Nat) (R : Nat → Nat) (v k w : Nat) : Prop :=
  ∃ i, i < k + 1 ∧ ∃ j, k ≤ j ∧ j < tg_wl w + 1 ∧ tg_SW Sp T G R (G v 1) i (tg_wo w i j) ∧ tg_IP Sw Sp G v (k - i) (tg_pt w i j)
def tg_P (Sw : Nat → Nat → Prop) (Sp : Nat → Nat → Nat → Prop) (T : Nat) (G : Nat → Nat → Nat) (R : Nat → Nat) (v k w : Nat) : Prop :=
  tg_IP Sw Sp G v k w ∨ (G v 4 = 0 ∧ tg_WP Sw Sp T G R v k w)
def tg_CA (T : Nat) (G : Nat → Nat → Nat) (R : Nat → Nat) (Sw : Nat → Nat → Prop) (Sp : Nat → Nat → Nat → Prop) (v : Nat) : Prop :=
  (G v 5 = 0 → ∀ w, w < 63 → tg_W Sw Sp T G R v w → Sw v w) ∧ (G v 5 = 1 → ∀ k w, k < 6 → w < 63 → k ≤ tg_wl w → tg_P Sw Sp T G R v k w → Sp v k w)
def tg_Cl (g T : Nat) (G : Nat → Nat → Nat) (R : Nat → Nat) (Sw : Nat → Nat → Prop) (Sp : Nat → Nat → Nat → Prop) : Prop :=
  ∀ v, v < g → tg_CA T G R Sw Sp v
def tg_LW (g T : Nat) (G : Nat → Nat → Nat) (R : Nat → Nat) (v w : Nat) : Prop := ∀ Sw Sp, tg_Cl g T G R Sw Sp → Sw v w
def tg_LP (g T : Nat) (G : Nat → Nat → Nat) (R : Nat → Nat) (v k w : Nat) : Prop := ∀ Sw Sp, tg_Cl g T G R Sw Sp → Sp v k w
def tg_GN (g v : Nat) (n : Nat → Nat) : Prop := n 0 ≤ 6 ∧ ((n 0 = 3 ∨ 5 ≤ n 0) → n 1 < 3) ∧ (5 ≤ n 0 → n 2 < v ∧ (g ≤ v → g ≤ n 2)) ∧
  (n 0 = 6 → n 3 < v ∧ (g ≤ v → g ≤ n 3)) ∧ n 4 ≤ 1 ∧ (n 0 < 5 → n 4 = 1) ∧ n 5 ≤ 1 ∧ (n 5 = 1 → 4 ≤ n 0) ∧ (n 0 = 4 → n 5 = 1)
/-- the grammar's part: nodes below g, T roots -/
def tg_Gr (g T : Nat) (G : Nat → Nat → Nat) (R : Nat → Nat) : Prop :=
  g ≤ 24 ∧ T ≤ 4 ∧ (∀ v, v < g → tg_GN g v (G v)) ∧ ∀ t, t < T → R t < g ∧ 5 ≤ G (R t) 0
section
variable {g T : Nat} {G : Nat → Nat → Nat} {R : Nat → Nat} {Sw Sw' : Nat → Nat → Prop} {Sp Sp' : Nat → Nat → Nat → Prop}
theorem tg_SW_mono (hG : tg_Gr g T G R) (hp : ∀ v k w, v < g → k < 6 → Sp v k w → Sp' v k w) {a k w : Nat} (hk : k < 6) (h : tg_SW Sp T G R a k w) : tg_SW Sp' T G R a k w := by
  obtain ⟨t, ht, h1, h2, h3⟩ := h
  exact ⟨t, ht, h1, h2, hp _ _ _ (hG.2.2.2 t ht).1 hk h3⟩
theorem tg_BW_mono (hG : tg_Gr g T G R) (hw : ∀ v w, v < g → Sw v w → Sw' v w) {a w : Nat} (h : tg_BW Sw T G R a w) : tg_BW Sw' T G R a w := by
  obtain ⟨t, ht, h1, h2, h3⟩ := h
  exact ⟨t, ht, h1, h2, hw _ _ (hG.2.2.2 t ht).1 h3⟩
theorem tg_c2 (hG : tg_Gr g T G R) {v : Nat} (hv : v < g) (h : 5 ≤ G v 0) : G v 2 < g := Nat.lt_trans ((hG.2.2.1 v hv).2.2.1 h).1 hv
theorem tg_c3 (hG : tg_Gr g T G R) {v : Nat} (hv : v < g) (h : G v 0 = 6) : G v 3 < g := Nat.lt_trans ((hG.2.2.1 v hv).2.2.2.1 h).1 hv
theorem tg_In_mono (hG : tg_Gr g T G R) (hw : ∀ v w, v < g → Sw v w → Sw' v w) {v w : Nat} (hv : v < g) (h : tg_In Sw G v w) : tg_In Sw' G v w := by
  rcases h with ⟨h, h'⟩ | ⟨h, i, hi, h1, h2⟩
  · exact Or.inl ⟨h, hw _ _ (tg_c2 hG hv (by omega)) h'⟩
  · exact Or.inr ⟨h, i, hi, hw _ _ (tg_c2 hG hv (by omega)) h1, hw _ _ (tg_c3 hG hv h) h2⟩
theorem tg_W_mono (hG : tg_Gr g T G R) (hw : ∀ v w, v < g → Sw v w → Sw' v w) (hp : ∀ v k w, v < g → k < 6 → Sp v k w → Sp' v k w) {v w : Nat} (hv : v < g) (h : tg_W Sw Sp T G R v w) : tg_W Sw' Sp' T G R v w := by
  rcases h with h | h | ⟨h, h'⟩ | ⟨h, h'⟩
  · exact Or.inl h
  · exact Or.inr (Or.inl h)
  · exact Or.inr (Or.inr (Or.inl ⟨h, tg_BW_mono hG hw h'⟩))
  · refine Or.inr (Or.inr (Or.inr ⟨h, ?_⟩))
    rcases h' with h' | ⟨hf, i, hi, j, hij, hj, h1, h2⟩
    · exact Or.inl (tg_In_mono hG hw hv h')
    · exact Or.inr ⟨hf, i, hi, j, hij, hj, tg_In_mono hG hw hv h1, tg_SW_mono hG hp (by have := tg_wl5 w; omega) h2⟩
theorem tg_IP_mono (hG : tg_Gr g T G R) (hw : ∀ v w, v < g → Sw v w → Sw' v w) (hp : ∀ v k w, v < g → k < 6 → Sp v k w → Sp' v k w) {v k w : Nat} (hv : v < g) (hk : k < 6) (h : tg_IP Sw Sp G v k w) : tg_IP Sw' Sp' G v k w := by
  rcases h with h | ⟨h, h'⟩ | ⟨h, c, hc, h'⟩
  · exact Or.inl h
  · exact Or.inr (Or.inl ⟨h, hp _ _ _ (tg_c2 hG hv (by omega)) hk h'⟩)
  · refine Or.inr (Or.inr ⟨h, c, hc, ?_⟩)
    have a2 := tg_c2 hG hv (show 5 ≤ G v 0 by omega)
    have a3 := tg_c3 hG hv h
    rcases h' with ⟨h1, h2, h3, h4⟩ | ⟨h1, h2, h3, h4⟩
    · exact Or.inl ⟨h1, h2, hp _ _ _ a2 hk h3, hw _ _ a3 h4⟩
    · exact Or.inr ⟨h1, h2, hw _ _ a2 h3, hp _ _ _ a3 (by omega) h4⟩
theorem tg_P_mono (hG : tg_Gr g T G R) (hw : ∀ v w, v < g → Sw v w → Sw' v w) (hp : ∀ v k w, v < g → k < 6 → Sp v k w → Sp' v k w) {v k w : Nat} (hv : v < g) (hk : k < 6) (h : tg_P Sw Sp T G R v k w) : tg_P Sw' Sp' T G R v k w := by
  rcases h with h | ⟨hf, i, hi, j, hij, hj, h1, h2⟩
  · exact Or.inl (tg_IP_mono hG hw hp hv hk h)
  · exact Or.inr ⟨hf, i, hi, j, hij, hj, tg_SW_mono hG hp (by omega) h1, tg_IP_mono hG hw hp hv (by omega) h2⟩
theorem tg_L_cl (hG : tg_Gr g T G R) : tg_Cl g T G R (tg_LW g T G R) (tg_LP g T G R) := by
  intro v hv
  refine ⟨fun hf w hw h => ?_, fun hf k w hk hw hkw h => ?_⟩
  · intro Sw Sp hc
    exact (hc v hv).1 hf w hw (tg_W_mono hG (fun _ _ _ z => z Sw Sp hc) (fun _ _ _ _ _ z => z Sw Sp hc) hv h)
  · intro Sw Sp hc
    exact (hc v hv).2 hf k w hk hw hkw (tg_P_mono hG (fun _ _ _ z => z Sw Sp hc) (fun _ _ _ _ _ z => z Sw Sp hc) hv hk h)
theorem tg_LW_f {v w : Nat} (h : tg_LW g T G R v w) : G v 5 = 0 ∧ w < 63 :=
  h (fun v w => G v 5 = 0 ∧ w < 63) (fun _ _ _ => True) (fun _ _ => ⟨fun hf _ hw _ => ⟨hf, hw⟩, fun _ _ _ _ _ _ _ => trivial⟩)
theorem tg_LP_f {v k w : Nat} (h : tg_LP g T G R v k w) : G v 5 = 1 ∧ w < 63 ∧ k ≤ tg_wl w ∧ k < 6 :=
  h (fun _ _ => True) (fun v k w => G v 5 = 1 ∧ w < 63 ∧ k ≤ tg_wl w ∧ k < 6) (fun _ _ => ⟨fun _ _ _ _ => trivial, fun hf _ _ hk hw hkw _ => ⟨hf, hw, hkw, hk⟩⟩)
theorem tg_f01 (hG : tg_Gr g T G R) {v : Nat} (hv : v < g) : G v 5 = 0 ∨ G v 5 = 1 := by
  have := (hG.2.2.1 v hv).2.2.2.2.2.2.1
  omega
/-! only what lies below g and T counts -/
theorem tg_Cl_congr (hG : tg_Gr g T G R) {G' : Nat → Nat → Nat} {R' : Nat → Nat} (eG : ∀ v, v < g → G' v = G v) (eR : ∀ t, t < T → R' t = R t) (h : tg_Cl g T G R Sw Sp) : tg_Cl g T G' R' Sw Sp := by
  have eSW : ∀ {a k w}, tg_SW Sp T G' R' a k w → tg_SW Sp T G R a k w := by
    intro a k w ⟨t, ht, h1, h2, h3⟩
    rw [eR t ht] at h1 h2 h3
    rw [eG _ (hG.2.2.2 t ht).1] at h1 h2
    exact ⟨t, ht, h1, h2, h3⟩
  have eBW : ∀ {a w}, tg_BW Sw T G' R' a w → tg_BW Sw T G R a w := by
    intro a w ⟨t, ht, h1, h2, h3⟩
    rw [eR t ht] at h1 h2 h3
    rw [eG _ (hG.2.2.2 t ht).1] at h1 h2
    exact ⟨t, ht, h1, h2, h3⟩
  intro v hv
  have eI : ∀ {w}, tg_In Sw G' v w → tg_In Sw G v w := by
    intro w z
    unfold tg_In at z ⊢
    rw [eG v hv] at z
    exact z
  have eP : ∀ {k w}, tg_IP Sw Sp G' v k w → tg_IP Sw Sp G v k w := by
    intro k w z
    unfold tg_IP tg_Fk at z ⊢
    rw [eG v hv] at z
    rcases z with z | z | ⟨z0, z⟩
    · exact Or.inl z
    · exact Or.inr (Or.inl z)
    · rw [eG _ (tg_c2 hG hv (show 5 ≤ G v 0 by omega))] at z
      exact Or.inr (Or.inr ⟨z0, z⟩)
  constructor
  · intro hf w hw z
    rw [eG v hv] at hf
    refine (h v hv).1 hf w hw ?_
    unfold tg_W at z ⊢
    rw [eG v hv] at z
    rcases z with z | z | ⟨z0, z⟩ | ⟨z0, z | ⟨zf, i, hi, j, hij, hj, z1, z2⟩⟩
    · exact Or.inl z
    · exact Or.inr (Or.inl z)
    · exact Or.inr (Or.inr (Or.inl ⟨z0, eBW z⟩))
    · exact Or.inr (Or.inr (Or.inr ⟨z0, Or.inl (eI z)⟩))
    · exact Or.inr (Or.inr (Or.inr ⟨z0, Or.inr ⟨zf, i, hi, j, hij, hj, eI z1, eSW z2⟩⟩))
  · intro hf k w hk hw hkw z
    rw [eG v hv] at hf
    refine (h v hv).2 hf k w hk hw hkw ?_
    unfold tg_P tg_WP at z ⊢
    rw [eG v hv] at z
    rcases z with z | ⟨zf, i, hi, j, hij, hj, z1, z2⟩
    · exact Or.inl (eP z)
    · exact Or.inr ⟨zf, i, hi, j, hij, hj, eSW z1, eP z2⟩
theorem tg_Gr_congr (hG : tg_Gr g T G R) {G' : Nat → Nat → Nat} {R' : Nat → Nat} (eG : ∀ v, v < g → G' v = G v) (eR : ∀ t, t < T → R' t = R t) : tg_Gr g T G' R' := by
  refine ⟨hG.1, hG.2.1, fun v hv => ?_, fun t ht => ?_⟩
  · rw [eG v hv]; exact hG.2.2.1 v hv
  · have := hG.2.2.2 t ht
    rw [eR t ht, eG _ this.1]; exact this
theorem tg_LW_congr (hG : tg_Gr g T G R) {G' : Nat → Nat → Nat} {R' : Nat → Nat} (eG : ∀ v, v < g → G' v = G v) (eR : ∀ t, t < T → R' t = R t) {v w : Nat} : tg_LW g T G' R' v w ↔ tg_LW g T G R v w :=
  ⟨fun h Sw Sp hc => h Sw Sp (tg_Cl_congr hG eG eR hc), fun h Sw Sp hc => h Sw Sp (tg_Cl_congr (tg_Gr_congr hG eG eR) (fun v hv => (eG v hv).symm) (fun t ht => (eR t ht).symm) hc)⟩
theorem tg_LP_congr (hG : tg_Gr g T G R) {G' : Nat → Nat → Nat} {R' : Nat → Nat} (eG : ∀ v, v < g → G' v = G v) (eR : ∀ t, t < T → R' t = R t) {v k w : Nat} : tg_LP g T G' R' v k w ↔ tg_LP g T G R v k w :=
  ⟨fun h Sw Sp hc => h Sw Sp (tg_Cl_congr hG eG eR hc), fun h Sw Sp hc => h Sw Sp (tg_Cl_congr (tg_Gr_congr hG eG eR) (fun v hv => (eG v hv).symm) (fun t ht => (eR t ht).symm) hc)⟩
theorem tg_BL_congr (hG : tg_Gr g T G R) {G' : Nat → Nat → Nat} {R' : Nat → Nat} (eG : ∀ v, v < g → G' v = G v) (eR : ∀ t, t < T → R' t = R t) {a w : Nat} : tg_BW (tg_LW g T G' R') T G' R' a w ↔ tg_BW (tg_LW g T G R) T G R a w := by
  constructor
  · intro ⟨t, ht, h1, h2, h3⟩
    rw [tg_LW_congr hG eG eR] at h3
    rw [eR t ht] at h1 h2 h3
    rw [eG _ (hG.2.2.2 t ht).1] at h1 h2
    exact ⟨t, ht, h1, h2, h3⟩
  · intro ⟨t, ht, h1, h2, h3⟩
    refine ⟨t, ht, ?_, ?_, ?_⟩
    · rw [eR t ht, eG _ (hG.2.2.2 t ht).1]; exact h1
    · rw [eR t ht, eG _ (hG.2.2.2 t ht).1]; exact h2
    · rw [tg_LW_congr hG eG eR, eR t ht]; exact h3
end
end
section
/-! the reference's table: words (W) and pairs (Q) as sets -/
def tg_yw (W : Nat → Int64) (v w : Nat) : Prop := tg_b (W v) w = true
def tg_yp (Q : Nat → Int64) (v k w : Nat) : Prop := tg_b (Q (6 * v + k)) w = true
def tg_YI (g T : Nat) (G : Nat → Nat → Nat) (R : Nat → Nat) (W Q : Nat → Int64) : Prop :=
  (∀ v w, v < g → tg_yw W v w → tg_LW g T G R v w) ∧ (∀ v k w, v < g → k < 6 → tg_yp Q v k w → tg_LP g T G R v k w) ∧
  (∀ v w, v < g → G v 5 = 0 → tg_yw W v w → tg_W (tg_yw W) (tg_yp Q) T G R v w) ∧
  (∀ v k w, v < g → k < 6 → G v 5 = 1 → tg_yp Q v k w → tg_P (tg_yw W) (tg_yp Q) T G R v k w)
def tg_yc (G : Nat → Nat → Nat) (W Q : Nat → Int64) (c : Nat) : Bool :=
  if G (c / 378) 5 = 1 then tg_b (Q (6 * (c / 378) + c % 378 / 63)) (c % 63) else (decide (c % 378 < 63) && tg_b (W (c / 378)) (c % 63))
def tg_yn (G : Nat → Nat → Nat) (W Q : Nat → Int64) : Nat := tg_nc (tg_yc G W Q) 9072
theorem tg_yn_le (G : Nat → Nat → Nat) (W Q : Nat → Int64) : tg_yn G W Q ≤ 9072 := tg_nc_le _ _
section
variable {g T : Nat} {G : Nat → Nat → Nat} {R : Nat → Nat} {W Q : Nat → Int64}
theorem tg_yc_mono {W' Q' : Nat → Int64} (hW : ∀ v w, tg_yw W v w → tg_yw W' v w) (hQ : ∀ i w, tg_b (Q i) w = true → tg_b (Q' i) w = true) (c : Nat) : tg_yc G W Q c = true → tg_yc G W' Q' c = true := by
  unfold tg_yc
  by_cases e : G (c / 378) 5 = 1
  · rw [if_pos e, if_pos e]; exact hQ _ _
  · rw [if_neg e, if_neg e]
    simp only [Bool.and_eq_true]
    exact fun ⟨a, b⟩ => ⟨a, hW _ _ b⟩
theorem tg_ystepW (hG : tg_Gr g T G R) (I : tg_YI g T G R W Q) {v : Nat} (hv : v < g) (hf : G v 5 = 0) {r : Int64}
    (hr : ∀ w, tg_b r w = true ↔ (w < 63 ∧ tg_W (tg_yw W) (tg_yp Q) T G R v w)) :
    tg_YI g T G R (vp_updL W v r) Q ∧ (∀ v' w, tg_yw W v' w → tg_yw (vp_updL W v r) v' w) := by
  have up : ∀ v' w, tg_yw W v' w → tg_yw (vp_updL W v r) v' w := by
    intro v' w h
    unfold tg_yw at h ⊢
    by_cases e : v' = v
    · subst e
      rw [pk_uLs, hr]
      exact ⟨(tg_LW_f (I.1 _ _ hv h)).2, I.2.2.1 _ _ hv hf h⟩
    · rw [pk_uLn e]; exact h
  refine ⟨⟨?_, I.2.1, ?_, ?_⟩, up⟩
  · intro v' w hv' h
    unfold tg_yw at h
    by_cases e : v' = v
    · subst e
      rw [pk_uLs, hr] at h
      exact (tg_L_cl hG v' hv).1 hf w h.1 (tg_W_mono hG (fun a b c d => I.1 a b c d) (fun a b c d e f => I.2.1 a b c d e f) hv h.2)
    · rw [pk_uLn e] at h; exact I.1 _ _ hv' h
  · intro v' w hv' hf' h
    refine tg_W_mono hG (fun a b _ d => up a b d) (fun _ _ _ _ _ f => f) hv' ?_
    unfold tg_yw at h
    by_cases e : v' = v
    · subst e
      rw [pk_uLs, hr] at h
      exact h.2
    · rw [pk_uLn e] at h; exact I.2.2.1 _ _ hv' hf' h
  · intro v' k w hv' hk hf' h
    exact tg_P_mono hG (fun a b _ d => up a b d) (fun _ _ _ _ _ f => f) hv' hk (I.2.2.2 _ _ _ hv' hk hf' h)
theorem tg_ystepP (hG : tg_Gr g T G R) (I : tg_YI g T G R W Q) {v k : Nat} (hv : v < g) (hk : k < 6) (hf : G v 5 = 1) {r : Int64}
    (hr : ∀ w, tg_b r w = true ↔ (w < 63 ∧ k ≤ tg_wl w ∧ tg_P (tg_yw W) (tg_yp Q) T G R v k w)) :
    tg_YI g T G R W (vp_updL Q (6 * v + k) r) ∧ (∀ i w, tg_b (Q i) w = true → tg_b (vp_updL Q (6 * v + k) r i) w = true) := by
  have up : ∀ i w, tg_b (Q i) w = true → tg_b (vp_updL Q (6 * v + k) r i) w = true := by
    intro i w h
    by_cases e : i = 6 * v + k
    · subst e
      rw [pk_uLs, hr]
      have := tg_LP_f (I.2.1 _ _ _ hv hk h)
      exact ⟨this.2.1, this.2.2.1, I.2.2.2 _ _ _ hv hk hf h⟩
    · rw [pk_uLn e]; exact h
  have up' : ∀ v' k' w, tg_yp Q v' k' w → tg_yp (vp_updL Q (6 * v + k) r) v' k' w := fun v' k' w h => up _ _ h
  refine ⟨⟨I.1, ?_, ?_, ?_⟩, up⟩
  · intro v' k' w hv' hk' h
    unfold tg_yp at h
    by_cases e : 6 * v' + k' = 6 * v + k
    · obtain ⟨rfl, rfl⟩ : v' = v ∧ k' = k := by omega
      rw [pk_uLs, hr] at h
      exact (tg_L_cl hG v' hv).2 hf k' w hk h.1 h.2.1 (tg_P_mono hG (fun a b c d => I.1 a b c d) (fun a b c d e f => I.2.1 a b c d e f) hv hk h.2.2)
    · rw [pk_uLn e] at h; exact I.2.1 _ _ _ hv' hk' h
  · intro v' w hv' hf' h
    exact tg_W_mono hG (fun _ _ _ d => d) (fun a b c _ _ f => up' a b c f) hv' (I.2.2.1 _ _ hv' hf' h)
  · intro v' k' w hv' hk' hf' h
    refine tg_P_mono hG (fun _ _ _ d => d) (fun a b c _ _ f => up' a b c f) hv' hk' ?_
    unfold tg_yp at h
    by_cases e : 6 * v' + k' = 6 * v + k
    · obtain ⟨rfl, rfl⟩ : v' = v ∧ k' = k := by omega
      rw [pk_uLs, hr] at h
      exact h.2.2
    · rw [pk_uLn e] at h; exact I.2.2.2 _ _ _ hv' hk' hf' h
/-- a new bit -/
theorem tg_newbit {x y : Int64} (h : ∀ w, tg_b x w = true → tg_b y w = true) (ne : y ≠ x) : ∃ w, tg_b y w = true ∧ ¬ tg_b x w = true := by
  apply Classical.byContradiction
  intro hn
  refine ne (tg_exti (fun i => ⟨fun a => ?_, h i⟩))
  apply Classical.byContradiction
  intro b
  exact hn ⟨i, a, b⟩
theorem tg_yltW {v : Nat} (hv : v < 24) (hf : G v 5 = 0) {r : Int64} (up : ∀ v' w, tg_yw W v' w → tg_yw (vp_updL W v r) v' w) (h63 : ∀ w, tg_b r w = true → w < 63) (ne : r ≠ W v) :
    tg_yn G W Q < tg_yn G (vp_updL W v r) Q := by
  obtain ⟨w, h1, h2⟩ := tg_newbit (x := W v) (y := r) (fun w h => by have := up v w h; unfold tg_yw at this; rwa [pk_uLs] at this) ne
  have hw := h63 w h1
  refine tg_nc_lt 9072 (fun c _ => tg_yc_mono up (fun _ _ h => h) c) ⟨v * 378 + w, by omega, ?_, ?_⟩
  · unfold tg_yc
    rw [show (v * 378 + w) / 378 = v by omega, if_neg (by omega), show (v * 378 + w) % 63 = w by omega, show (v * 378 + w) % 378 = w by omega, pk_uLs, h1, decide_eq_true hw]
    rfl
  · unfold tg_yc
    rw [show (v * 378 + w) / 378 = v by omega, if_neg (by omega), show (v * 378 + w) % 63 = w by omega, show (v * 378 + w) % 378 = w by omega, decide_eq_true hw, Bool.true_and]
    exact h2
theorem tg_yltP {v k : Nat} (hv : v < 24) (hk : k < 6) (hf : G v 5 = 1) {r : Int64} (up : ∀ i w, tg_b (Q i) w = true → tg_b (vp_updL Q (6 * v + k) r i) w = true) (h63 : ∀ w, tg_b r w = true → w < 63) (ne : r ≠ Q (6 * v + k)) :
    tg_yn G W Q < tg_yn G W (vp_updL Q (6 * v + k) r) := by
  obtain ⟨w, h1, h2⟩ := tg_newbit (x := Q (6 * v + k)) (y := r) (fun w h => by have := up _ w h; rwa [pk_uLs] at this) ne
  have hw := h63 w h1
  refine tg_nc_lt 9072 (fun c _ => tg_yc_mono (fun _ _ h => h) up c) ⟨v * 378 + (k * 63 + w), by omega, ?_, ?_⟩
  · unfold tg_yc
    rw [show (v * 378 + (k * 63 + w)) / 378 = v by omega, if_pos hf, show (v * 378 + (k * 63 + w)) % 63 = w by omega, show (v * 378 + (k * 63 + w)) % 378 / 63 = k by omega, pk_uLs]
    exact h1
  · unfold tg_yc
    rw [show (v * 378 + (k * 63 + w)) / 378 = v by omega, if_pos hf, show (v * 378 + (k * 63 + w)) % 63 = w by omega, show (v * 378 + (k * 63 + w)) % 378 / 63 = k by omega]
    exact h2
theorem tg_yleW {r : Int64} {v : Nat} (up : ∀ v' w, tg_yw W v' w → tg_yw (vp_updL W v r) v' w) : tg_yn G W Q ≤ tg_yn G (vp_updL W v r) Q :=
  tg_nc_mono 9072 (fun c _ => tg_yc_mono up (fun _ _ h => h) c)
theorem tg_yleP {r : Int64} {i : Nat} (up : ∀ j w, tg_b (Q j) w = true → tg_b (vp_updL Q i r j) w = true) : tg_yn G W Q ≤ tg_yn G W (vp_updL Q i r) :=
  tg_nc_mono 9072 (fun c _ => tg_yc_mono (fun _ _ h => h) up c)
/-- what the finished table says -/
def tg_YR (g T : Nat) (G : Nat → Nat → Nat) (R : Nat → Nat) (W Q : Nat → Int64) : Prop :=
  (∀ v w, v < g → (tg_b (W v) w = true ↔ tg_LW g T G R v w)) ∧ (∀ v k w, v < g → k < 6 → (tg_b (Q (6 * v + k)) w = true ↔ tg_LP g T G R v k w))
theorem tg_YR_of (I : tg_YI g T G R W Q) (hc : tg_Cl g T G R (tg_yw W) (tg_yp Q)) : tg_YR g T G R W Q :=
  ⟨fun v w hv => ⟨I.1 v w hv, fun h => h _ _ hc⟩, fun v k w hv hk => ⟨I.2.1 v k w hv hk, fun h => h _ _ hc⟩⟩
/-- a sweep at node v, flag m -/
def tg_YS (g T : Nat) (G : Nat → Nat → Nat) (R : Nat → Nat) (W0 Q0 : Nat → Int64) (v : Nat) (m : Int32) (W Q : Nat → Int64) : Prop :=
  tg_YI g T G R W Q ∧ ((m = 0 ∧ W = W0 ∧ Q = Q0 ∧ ∀ v', v' < v → tg_CA T G R (tg_yw W) (tg_yp Q) v') ∨ (m = 1 ∧ tg_yn G W0 Q0 < tg_yn G W Q))
/-- within a footed node v, its pairs below k done -/
def tg_YK (g T : Nat) (G : Nat → Nat → Nat) (R : Nat → Nat) (W0 Q0 : Nat → Int64) (v k : Nat) (m : Int32) (W Q : Nat → Int64) : Prop :=
  tg_YI g T G R W Q ∧ ((m = 0 ∧ W = W0 ∧ Q = Q0 ∧ (∀ v', v' < v → tg_CA T G R (tg_yw W) (tg_yp Q) v') ∧
    (∀ k' w, k' < k → w < 63 → k' ≤ tg_wl w → tg_P (tg_yw W) (tg_yp Q) T G R v k' w → tg_yp Q v k' w)) ∨ (m = 1 ∧ tg_yn G W0 Q0 < tg_yn G W Q))
end
end
section
/-! the component's chart of the word with number o and length n: words (W), pairs (P), baseWords (B), wrapPairs (E) -/
def tg_xFo (n : Nat) (l r : Int64) (b : Nat) : Prop := ∃ m, b / 6 ≤ m ∧ m ≤ n ∧ tg_b l (b / 6 * 6 + m) = true ∧ tg_b r (m * 6 + b % 6) = true
def tg_xI (n o : Nat) (G : Nat → Nat → Nat) (W B : Nat → Int64) (v b : Nat) : Prop :=
  (G v 0 < 2 ∧ ∃ i, i < n ∧ (o + 1 - 2 ^ n) / 2 ^ (n - (i + 1)) % 2 = G v 0 ∧ b = 7 * i + 1) ∨ (G v 0 = 2 ∧ ∃ i, i < n + 1 ∧ b = 7 * i) ∨
  (G v 0 = 3 ∧ tg_b (B (G v 1)) b = true) ∨ (G v 0 = 5 ∧ tg_b (W (G v 2)) b = true) ∨ (G v 0 = 6 ∧ tg_xFo n (W (G v 2)) (W (G v 3)) b)
def tg_xWr (E : Nat → Int64) (a : Nat) (In : Nat → Prop) (b : Nat) : Prop := ∃ s, s < 36 ∧ In s ∧ tg_b (E (a * 36 + s)) b = true
def tg_xW (n o : Nat) (G : Nat → Nat → Nat) (W B E : Nat → Int64) (v b : Nat) : Prop :=
  tg_xI n o G W B v b ∨ (G v 4 = 0 ∧ tg_xWr E (G v 1) (tg_xI n o G W B v) b)
def tg_xJ (n : Nat) (G : Nat → Nat → Nat) (W P : Nat → Int64) (v s b : Nat) : Prop :=
  (G v 0 = 4 ∧ b = s) ∨ (G v 0 = 5 ∧ tg_b (P (G v 2 * 36 + s)) b = true) ∨
  (G v 0 = 6 ∧ ((G (G v 2) 5 = 1 ∧ tg_xFo n (P (G v 2 * 36 + s)) (W (G v 3)) b) ∨ (G (G v 2) 5 = 0 ∧ tg_xFo n (W (G v 2)) (P (G v 3 * 36 + s)) b)))
def tg_xP (n : Nat) (G : Nat → Nat → Nat) (W P E : Nat → Int64) (v s b : Nat) : Prop :=
  tg_xJ n G W P v s b ∨ (G v 4 = 0 ∧ tg_xWr E (G v 1) (tg_xJ n G W P v s) b)
def tg_ch (n s b : Nat) : Prop := b / 6 ≤ s / 6 ∧ s / 6 ≤ s % 6 ∧ s % 6 ≤ b % 6 ∧ b % 6 ≤ n
def tg_pq (o s b : Nat) : Nat := tg_pr o (b / 6) (s / 6) (s % 6) (b % 6)
/-- all that is entered is true -/
def tg_XS (n o g T : Nat) (G : Nat → Nat → Nat) (R : Nat → Nat) (W P B E : Nat → Int64) : Prop :=
  (∀ v b, v < g → tg_b (W v) b = true → (b / 6 ≤ b % 6 ∧ b % 6 ≤ n) ∧ tg_LW g T G R v (tg_pt o (b / 6) (b % 6))) ∧
  (∀ v s b, v < g → s < 36 → tg_b (P (v * 36 + s)) b = true → tg_ch n s b ∧ tg_LP g T G R v (s / 6 - b / 6) (tg_pq o s b)) ∧
  (∀ a b, a < 3 → tg_b (B a) b = true → (b / 6 ≤ b % 6 ∧ b % 6 ≤ n) ∧ tg_BW (tg_LW g T G R) T G R a (tg_pt o (b / 6) (b % 6))) ∧
  (∀ a s b, a < 3 → s < 36 → tg_b (E (a * 36 + s)) b = true → tg_ch n s b ∧ tg_SW (tg_LP g T G R) T G R a (s / 6 - b / 6) (tg_pq o s b))
/-- all that is entered follows again -/
def tg_XA (n o g : Nat) (G : Nat → Nat → Nat) (W P B E : Nat → Int64) : Prop :=
  (∀ v b, v < g → G v 5 = 0 → tg_b (W v) b = true → tg_xW n o G W B E v b) ∧
  (∀ v s b, v < g → s < 36 → G v 5 = 1 → tg_b (P (v * 36 + s)) b = true → tg_xP n G W P E v s b)
/-- the labels' sets hold what the trees cover -/
def tg_XG (T : Nat) (G : Nat → Nat → Nat) (R : Nat → Nat) (W P B E : Nat → Int64) : Prop :=
  ∀ t, t < T → (G (R t) 5 = 0 → ∀ b, tg_b (W (R t)) b = true → tg_b (B (G (R t) 1)) b = true) ∧
    (G (R t) 5 = 1 → ∀ s b, s < 36 → tg_b (P (R t * 36 + s)) b = true → tg_b (E (G (R t) 1 * 36 + s)) b = true)
/-- node v adds nothing -/
def tg_XC (n o : Nat) (G : Nat → Nat → Nat) (W P B E : Nat → Int64) (v : Nat) : Prop :=
  (G v 5 = 0 → ∀ b, tg_xW n o G W B E v b → tg_b (W v) b = true) ∧
  (G v 5 = 1 → ∀ p q b, p ≤ q → q ≤ n → tg_xP n G W P E v (p * 6 + q) b → tg_b (P (v * 36 + (p * 6 + q))) b = true)
section
variable {n o g T : Nat} {G : Nat → Nat → Nat} {R : Nat → Nat} {W P B E W' P' B' E' : Nat → Int64}
theorem tg_xFo_mono {l r l' r' : Int64} (hl : ∀ b, tg_b l b = true → tg_b l' b = true) (hr : ∀ b, tg_b r b = true → tg_b r' b = true) {b : Nat} (h : tg_xFo n l r b) : tg_xFo n l' r' b := by
  obtain ⟨m, h1, h2, h3, h4⟩ := h
  exact ⟨m, h1, h2, hl _ h3, hr _ h4⟩
theorem tg_xI_mono (hW : ∀ v b, tg_b (W v) b = true → tg_b (W' v) b = true) (hB : ∀ v b, tg_b (B v) b = true → tg_b (B' v) b = true) {v b : Nat} (h : tg_xI n o G W B v b) : tg_xI n o G W' B' v b := by
  rcases h with h | h | ⟨h, z⟩ | ⟨h, z⟩ | ⟨h, z⟩
  · exact Or.inl h
  · exact Or.inr (Or.inl h)
  · exact Or.inr (Or.inr (Or.inl ⟨h, hB _ _ z⟩))
  · exact Or.inr (Or.inr (Or.inr (Or.inl ⟨h, hW _ _ z⟩)))
  · exact Or.inr (Or.inr (Or.inr (Or.inr ⟨h, tg_xFo_mono (hW _) (hW _) z⟩)))
theorem tg_xW_mono (hW : ∀ v b, tg_b (W v) b = true → tg_b (W' v) b = true) (hB : ∀ v b, tg_b (B v) b = true → tg_b (B' v) b = true) (hE : ∀ v b, tg_b (E v) b = true → tg_b (E' v) b = true) {v b : Nat} (h : tg_xW n o G W B E v b) : tg_xW n o G W' B' E' v b := by
  rcases h with h | ⟨h, s, hs, h1, h2⟩
  · exact Or.inl (tg_xI_mono hW hB h)
  · exact Or.inr ⟨h, s, hs, tg_xI_mono hW hB h1, hE _ _ h2⟩
theorem tg_xJ_mono (hW : ∀ v b, tg_b (W v) b = true → tg_b (W' v) b = true) (hP : ∀ v b, tg_b (P v) b = true → tg_b (P' v) b = true) {v s b : Nat} (h : tg_xJ n G W P v s b) : tg_xJ n G W' P' v s b := by
  rcases h with h | ⟨h, z⟩ | ⟨h, ⟨z, y⟩ | ⟨z, y⟩⟩
  · exact Or.inl h
  · exact Or.inr (Or.inl ⟨h, hP _ _ z⟩)
  · exact Or.inr (Or.inr ⟨h, Or.inl ⟨z, tg_xFo_mono (hP _) (hW _) y⟩⟩)
  · exact Or.inr (Or.inr ⟨h, Or.inr ⟨z, tg_xFo_mono (hW _) (hP _) y⟩⟩)
theorem tg_xP_mono (hW : ∀ v b, tg_b (W v) b = true → tg_b (W' v) b = true) (hP : ∀ v b, tg_b (P v) b = true → tg_b (P' v) b = true) (hE : ∀ v b, tg_b (E v) b = true → tg_b (E' v) b = true) {v s b : Nat} (h : tg_xP n G W P E v s b) : tg_xP n G W' P' E' v s b := by
  rcases h with h | ⟨h, s', hs, h1, h2⟩
  · exact Or.inl (tg_xJ_mono hW hP h)
  · exact Or.inr ⟨h, s', hs, tg_xJ_mono hW hP h1, hE _ _ h2⟩
/-! what follows from true things is true -/
theorem tg_cut6 (i m : Nat) (h : m < 6) : (i * 6 + m) / 6 = i ∧ (i * 6 + m) % 6 = m := by omega
theorem tg_xI_true (ho : o < 63) (hn : tg_wl o = n) (hG : tg_Gr g T G R) (S : tg_XS n o g T G R W P B E) {v b : Nat} (hv : v < g) (h : tg_xI n o G W B v b) :
    (b / 6 ≤ b % 6 ∧ b % 6 ≤ n) ∧
    ((G v 0 < 2 ∧ tg_pt o (b / 6) (b % 6) = G v 0 + 1) ∨ (G v 0 = 2 ∧ tg_pt o (b / 6) (b % 6) = 0) ∨ (G v 0 = 3 ∧ tg_BW (tg_LW g T G R) T G R (G v 1) (tg_pt o (b / 6) (b % 6))) ∨
     (5 ≤ G v 0 ∧ tg_In (tg_LW g T G R) G v (tg_pt o (b / 6) (b % 6)))) := by
  have h5 : n ≤ 5 := hn ▸ tg_wl5 o
  have gn := hG.2.2.1 v hv
  rcases h with ⟨h, i, hi, hc, rfl⟩ | ⟨h, i, hi, rfl⟩ | ⟨h, z⟩ | ⟨h, z⟩ | ⟨h, m, h1, h2, h3, h4⟩
  · have e1 : (7 * i + 1) / 6 = i := by omega
    have e2 : (7 * i + 1) % 6 = i + 1 := by omega
    rw [e1, e2]
    refine ⟨⟨by omega, by omega⟩, Or.inl ⟨h, ?_⟩⟩
    rw [tg_pt1, hn, hc]
    omega
  · have e1 : (7 * i) / 6 = i := by omega
    have e2 : (7 * i) % 6 = i := by omega
    rw [e1, e2]
    refine ⟨⟨by omega, by omega⟩, Or.inr (Or.inl ⟨h, ?_⟩)⟩
    have := (tg_F1 o ho i (by omega) i (by omega)).2
    exact tg_wl0.mp (by omega)
  · have := S.2.2.1 _ _ (gn.2.1 (Or.inl h)) z
    exact ⟨this.1, Or.inr (Or.inr (Or.inl ⟨h, this.2⟩))⟩
  · have := S.1 _ _ (tg_c2 hG hv (by omega)) z
    exact ⟨this.1, Or.inr (Or.inr (Or.inr ⟨by omega, Or.inl ⟨h, this.2⟩⟩))⟩
  · have a := S.1 _ _ (tg_c2 hG hv (by omega)) h3
    have c := S.1 _ _ (tg_c3 hG hv h) h4
    rw [(tg_cut6 (b / 6) m (by omega)).1, (tg_cut6 (b / 6) m (by omega)).2] at a
    rw [(tg_cut6 m (b % 6) (by omega)).1, (tg_cut6 m (b % 6) (by omega)).2] at c
    refine ⟨⟨by omega, by omega⟩, Or.inr (Or.inr (Or.inr ⟨by omega, Or.inr ⟨h, m - b / 6, ?_, ?_, ?_⟩⟩))⟩
    · rw [(tg_F1 o ho (b % 6) (by omega) (b / 6) (by omega)).2]; omega
    · have := tg_F2 o ho (b % 6) (by omega) m (by omega) (b / 6) (by omega) (b / 6) (by omega)
      rw [Nat.sub_self] at this
      rw [this]; exact a.2
    · have := tg_F2 o ho (b % 6) (by omega) (b % 6) (by omega) m (by omega) (b / 6) (by omega)
      rw [(tg_F1 o ho (b % 6) (by omega) (b / 6) (by omega)).2, this]; exact c.2
theorem tg_xW_true (ho : o < 63) (hn : tg_wl o = n) (hG : tg_Gr g T G R) (S : tg_XS n o g T G R W P B E) {v b : Nat} (hv : v < g) (hf : G v 5 = 0) (h : tg_xW n o G W B E v b) :
    (b / 6 ≤ b % 6 ∧ b % 6 ≤ n) ∧ tg_LW g T G R v (tg_pt o (b / 6) (b % 6)) := by
  have h5 : n ≤ 5 := hn ▸ tg_wl5 o
  have gn := hG.2.2.1 v hv
  have cl := (tg_L_cl hG v hv).1 hf
  rcases h with h | ⟨hx, s, hs, h1, h2⟩
  · obtain ⟨r, h⟩ := tg_xI_true ho hn hG S hv h
    refine ⟨r, cl _ (tg_F1 o ho (b % 6) (by omega) (b / 6) (by omega)).1 ?_⟩
    rcases h with h | h | h | ⟨h, z⟩
    · exact Or.inl h
    · exact Or.inr (Or.inl h)
    · exact Or.inr (Or.inr (Or.inl h))
    · exact Or.inr (Or.inr (Or.inr ⟨h, Or.inl z⟩))
  · have k5 : 5 ≤ G v 0 := by have := gn.2.2.2.2.2.1; omega
    obtain ⟨r, h⟩ := tg_xI_true ho hn hG S hv h1
    have z := S.2.2.2 _ _ _ (gn.2.1 (Or.inr k5)) hs h2
    obtain ⟨⟨c1, c2, c3, c4⟩, z⟩ := z
    have hi : tg_In (tg_LW g T G R) G v (tg_pt o (s / 6) (s % 6)) := by
      rcases h with h | h | h | ⟨h, z⟩
      · omega
      · omega
      · omega
      · exact z
    refine ⟨⟨by omega, by omega⟩, cl _ (tg_F1 o ho (b % 6) (by omega) (b / 6) (by omega)).1 (Or.inr (Or.inr (Or.inr ⟨k5, Or.inr ⟨hx, s / 6 - b / 6, ?_, s % 6 - b / 6, by omega, ?_, ?_, ?_⟩⟩)))⟩
    · rw [(tg_F1 o ho (b % 6) (by omega) (b / 6) (by omega)).2]; omega
    · rw [(tg_F1 o ho (b % 6) (by omega) (b / 6) (by omega)).2]; omega
    · rw [tg_F2 o ho (b % 6) (by omega) (s % 6) (by omega) (s / 6) (by omega) (b / 6) (by omega)]; exact hi
    · exact z
theorem tg_xJ_true (ho : o < 63) (hn : tg_wl o = n) (hG : tg_Gr g T G R) (S : tg_XS n o g T G R W P B E) {v s b : Nat} (hv : v < g) (hs : s < 36) (hs1 : s / 6 ≤ s % 6) (hs2 : s % 6 ≤ n) (h : tg_xJ n G W P v s b) :
    tg_ch n s b ∧ tg_IP (tg_LW g T G R) (tg_LP g T G R) G v (s / 6 - b / 6) (tg_pq o s b) := by
  have h5 : n ≤ 5 := hn ▸ tg_wl5 o
  have gn := hG.2.2.1 v hv
  rcases h with ⟨h, rfl⟩ | ⟨h, z⟩ | ⟨h, ⟨z, m, h1, h2, h3, h4⟩ | ⟨z, m, h1, h2, h3, h4⟩⟩
  · refine ⟨⟨by omega, by omega, by omega, by omega⟩, Or.inl ⟨h, ?_⟩⟩
    have := (tg_F3 o ho (b % 6) (by omega) (b % 6) (by omega) (b / 6) (by omega) (b / 6) (by omega)).2
    exact tg_wl0.mp (by unfold tg_pq; omega)
  · have := S.2.1 _ _ _ (tg_c2 hG hv (by omega)) hs z
    exact ⟨this.1, Or.inr (Or.inl ⟨h, this.2⟩)⟩
  · have a := S.2.1 _ _ _ (tg_c2 hG hv (by omega)) hs h3
    have c := S.1 _ _ (tg_c3 hG hv h) h4
    unfold tg_ch tg_pq at a
    rw [(tg_cut6 (b / 6) m (by omega)).1, (tg_cut6 (b / 6) m (by omega)).2] at a
    rw [(tg_cut6 m (b % 6) (by omega)).1, (tg_cut6 m (b % 6) (by omega)).2] at c
    obtain ⟨⟨a1, a2, a3, a4⟩, a5⟩ := a
    have F := tg_F4 o ho (b % 6) (by omega) m (by omega) (s % 6) (by omega) (s / 6) (by omega) (b / 6) (by omega)
    have Fl := (tg_F3 o ho (b % 6) (by omega) (s % 6) (by omega) (s / 6) (by omega) (b / 6) (by omega)).2
    refine ⟨⟨by omega, by omega, by omega, by omega⟩, Or.inr (Or.inr ⟨h, (s / 6 - b / 6) + (m - s % 6), ?_, Or.inl ⟨z, by omega, ?_, ?_⟩⟩)⟩
    · unfold tg_pq; rw [Fl]; omega
    · unfold tg_pq; rw [F.1]; exact a5
    · unfold tg_pq; rw [Fl, F.2]; exact c.2
  · have a := S.1 _ _ (tg_c2 hG hv (by omega)) h3
    have c := S.2.1 _ _ _ (tg_c3 hG hv h) hs h4
    unfold tg_ch tg_pq at c
    rw [(tg_cut6 (b / 6) m (by omega)).1, (tg_cut6 (b / 6) m (by omega)).2] at a
    rw [(tg_cut6 m (b % 6) (by omega)).1, (tg_cut6 m (b % 6) (by omega)).2] at c
    obtain ⟨⟨c1, c2, c3, c4⟩, c5⟩ := c
    have F := tg_F5 o ho (b % 6) (by omega) (s % 6) (by omega) (s / 6) (by omega) m (by omega) (b / 6) (by omega)
    have Fl := (tg_F3 o ho (b % 6) (by omega) (s % 6) (by omega) (s / 6) (by omega) (b / 6) (by omega)).2
    refine ⟨⟨by omega, by omega, by omega, by omega⟩, Or.inr (Or.inr ⟨h, m - b / 6, ?_, Or.inr ⟨z, by omega, ?_, ?_⟩⟩)⟩
    · unfold tg_pq; rw [Fl]; omega
    · unfold tg_pq; rw [F.1]; exact a.2
    · unfold tg_pq; rw [Fl, F.2, show s / 6 - b / 6 - (m - b / 6) = s / 6 - m by omega]; exact c5
theorem tg_xP_true (ho : o < 63) (hn : tg_wl o = n) (hG : tg_Gr g T G R) (S : tg_XS n o g T G R W P B E) {v s b : Nat} (hv : v < g) (hf : G v 5 = 1) (hs : s < 36) (hs1 : s / 6 ≤ s % 6) (hs2 : s % 6 ≤ n) (h : tg_xP n G W P E v s b) :
    tg_ch n s b ∧ tg_LP g T G R v (s / 6 - b / 6) (tg_pq o s b) := by
  have h5 : n ≤ 5 := hn ▸ tg_wl5 o
  have gn := hG.2.2.1 v hv
  have cl := (tg_L_cl hG v hv).2 hf
  rcases h with h | ⟨hx, s', hs', h1, h2⟩
  · obtain ⟨r, h⟩ := tg_xJ_true ho hn hG S hv hs hs1 hs2 h
    obtain ⟨c1, c2, c3, c4⟩ := id r
    have F := tg_F3 o ho (b % 6) (by omega) (s % 6) (by omega) (s / 6) (by omega) (b / 6) (by omega)
    exact ⟨r, cl _ _ (by omega) F.1 (by unfold tg_pq; rw [F.2]; omega) (Or.inl h)⟩
  · have k5 : 5 ≤ G v 0 := by have := gn.2.2.2.2.2.1; omega
    obtain ⟨r, h⟩ := tg_xJ_true ho hn hG S hv hs hs1 hs2 h1
    obtain ⟨⟨c1, c2, c3, c4⟩, z⟩ := S.2.2.2 _ _ _ (gn.2.1 (Or.inr k5)) hs' h2
    obtain ⟨d1, d2, d3, d4⟩ := r
    have F := tg_F3 o ho (b % 6) (by omega) (s % 6) (by omega) (s / 6) (by omega) (b / 6) (by omega)
    have Fa := tg_F6a o ho (b % 6) (by omega) (s' % 6) (by omega) (s % 6) (by omega) (s / 6) (by omega) (s' / 6) (by omega) (b / 6) (by omega)
    have Fb := tg_F6b o ho (b % 6) (by omega) (s' % 6) (by omega) (s % 6) (by omega) (s / 6) (by omega) (s' / 6) (by omega) (b / 6) (by omega)
    refine ⟨⟨by omega, by omega, by omega, by omega⟩, cl _ _ (by omega) F.1 (by unfold tg_pq; rw [F.2]; omega) (Or.inr ⟨hx, s' / 6 - b / 6, by omega, (s / 6 - b / 6) + (s' % 6 - s % 6), by omega, ?_, ?_, ?_⟩)⟩
    · unfold tg_pq; rw [F.2]; omega
    · unfold tg_pq; rw [Fb]; exact z
    · unfold tg_pq; rw [Fa, show s / 6 - b / 6 - (s' / 6 - b / 6) = s / 6 - s' / 6 by omega]; exact h
end
end
section
/-! the full chart holds all that is true -/
section
variable {n o g T : Nat} {G : Nat → Nat → Nat} {R : Nat → Nat} {W P B E W' P' B' E' : Nat → Int64}
def tg_cw (n o : Nat) (W : Nat → Int64) (v w : Nat) : Prop := ∀ i j, i ≤ j → j ≤ n → tg_pt o i j = w → tg_b (W v) (i * 6 + j) = true
def tg_cp (n o : Nat) (P : Nat → Int64) (v k w : Nat) : Prop := ∀ i p q j, i ≤ p → p ≤ q → q ≤ j → j ≤ n → p - i = k → tg_pr o i p q j = w → tg_b (P (v * 36 + (p * 6 + q))) (i * 6 + j) = true
theorem tg_In_x (ho : o < 63) (hn : tg_wl o = n) {v i j : Nat} (hij : i ≤ j) (hj : j ≤ n) (h : tg_In (tg_cw n o W) G v (tg_pt o i j)) : tg_xI n o G W B v (i * 6 + j) := by
  have h5 : n ≤ 5 := hn ▸ tg_wl5 o
  have c6 := tg_cut6 i j (by omega)
  rcases h with ⟨h, z⟩ | ⟨h, c, hc, h1, h2⟩
  · exact Or.inr (Or.inr (Or.inr (Or.inl ⟨h, z i j hij hj rfl⟩)))
  · have Fl := (tg_F1 o ho j (by omega) i (by omega)).2
    rw [Fl] at hc h2
    refine Or.inr (Or.inr (Or.inr (Or.inr ⟨h, i + c, ?_⟩)))
    rw [c6.1, c6.2]
    refine ⟨by omega, by omega, h1 i (i + c) (by omega) (by omega) ?_, h2 (i + c) j (by omega) (by omega) ?_⟩
    · have := tg_F2 o ho j (by omega) (i + c) (by omega) i (by omega) i (by omega)
      rw [Nat.sub_self, show i + c - i = c by omega] at this
      exact this.symm
    · have := tg_F2 o ho j (by omega) j (by omega) (i + c) (by omega) i (by omega)
      rw [show i + c - i = c by omega] at this
      exact this.symm
theorem tg_SW_x (X : tg_XG T G R W P B E) {a k w i p q j : Nat} (h : tg_SW (tg_cp n o P) T G R a k w) (h1 : i ≤ p) (h2 : p ≤ q) (h3 : q ≤ j) (h4 : j ≤ n) (h5 : n ≤ 5) (hk : p - i = k) (hw : tg_pr o i p q j = w) :
    tg_b (E (a * 36 + (p * 6 + q))) (i * 6 + j) = true := by
  obtain ⟨t, ht, z1, z2, z3⟩ := h
  have := (X t ht).2 z1 (p * 6 + q) (i * 6 + j) (by omega) (z3 i p q j h1 h2 h3 h4 hk hw)
  rw [z2] at this
  exact this
theorem tg_IP_x (ho : o < 63) (hn : tg_wl o = n) {v i p q j : Nat} (h1 : i ≤ p) (h2 : p ≤ q) (h3 : q ≤ j) (h4 : j ≤ n) (h : tg_IP (tg_cw n o W) (tg_cp n o P) G v (p - i) (tg_pr o i p q j)) : tg_xJ n G W P v (p * 6 + q) (i * 6 + j) := by
  have h5 : n ≤ 5 := hn ▸ tg_wl5 o
  have c6 := tg_cut6 i j (by omega)
  have Fl := (tg_F3 o ho j (by omega) q (by omega) p (by omega) i (by omega)).2
  rcases h with ⟨h, z⟩ | ⟨h, z⟩ | ⟨h, c, hc, ⟨z1, z2, z3, z4⟩ | ⟨z1, z2, z3, z4⟩⟩
  · have := tg_wl0.mpr z
    exact Or.inl ⟨h, by omega⟩
  · exact Or.inr (Or.inl ⟨h, z i p q j h1 h2 h3 h4 rfl rfl⟩)
  · rw [Fl] at hc z4
    have F := tg_F4 o ho j (by omega) (q + (c - (p - i))) (by omega) q (by omega) p (by omega) i (by omega)
    rw [show p - i + (q + (c - (p - i)) - q) = c by omega] at F
    refine Or.inr (Or.inr ⟨h, Or.inl ⟨z1, q + (c - (p - i)), ?_⟩⟩)
    rw [c6.1, c6.2]
    exact ⟨by omega, by omega, z3 i p q _ h1 h2 (by omega) (by omega) rfl F.1.symm, z4 _ j (by omega) h4 F.2.symm⟩
  · rw [Fl] at hc z4
    have F := tg_F5 o ho j (by omega) q (by omega) p (by omega) (i + c) (by omega) i (by omega)
    rw [show i + c - i = c by omega] at F
    refine Or.inr (Or.inr ⟨h, Or.inr ⟨z1, i + c, ?_⟩⟩)
    rw [c6.1, c6.2]
    exact ⟨by omega, by omega, z3 i _ (by omega) (by omega) F.1.symm, z4 _ p q j (by omega) h2 h3 h4 (by omega) F.2.symm⟩
theorem tg_x_cl (ho : o < 63) (hn : tg_wl o = n) (X : tg_XG T G R W P B E) (C : ∀ v, v < g → tg_XC n o G W P B E v) : tg_Cl g T G R (tg_cw n o W) (tg_cp n o P) := by
  have h5 : n ≤ 5 := hn ▸ tg_wl5 o
  intro v hv
  constructor
  · intro hf w hw h i j hij hj e
    subst e
    have c6 := tg_cut6 i j (by omega)
    have Fl := (tg_F1 o ho j (by omega) i (by omega)).2
    refine (C v hv).1 hf _ ?_
    rcases h with ⟨h, z⟩ | ⟨h, z⟩ | ⟨h, t, ht, z1, z2, z3⟩ | ⟨h, z | ⟨zf, a, ha, b, hab, hb, z1, z2⟩⟩
    · have w1 : tg_wl (G v 0 + 1) = 1 := (by decide : ∀ x, x < 2 → tg_wl (x + 1) = 1) _ h
      rw [z, w1] at Fl
      obtain rfl : j = i + 1 := by omega
      rw [tg_pt1, hn] at z
      exact Or.inl (Or.inl ⟨h, i, by omega, by omega, by omega⟩)
    · have := tg_wl0.mpr z
      exact Or.inl (Or.inr (Or.inl ⟨h, i, by omega, by omega⟩))
    · have := (X t ht).1 z1 _ (z3 i j hij hj rfl)
      rw [z2] at this
      exact Or.inl (Or.inr (Or.inr (Or.inl ⟨h, this⟩)))
    · exact Or.inl (tg_In_x ho hn hij hj z)
    · rw [Fl] at ha hb
      have F2 := tg_F2 o ho j (by omega) (i + b) (by omega) (i + a) (by omega) i (by omega)
      rw [show i + a - i = a by omega, show i + b - i = b by omega] at F2
      rw [F2] at z1
      refine Or.inr ⟨zf, (i + a) * 6 + (i + b), by omega, tg_In_x ho hn (by omega) (by omega) z1, tg_SW_x X z2 (by omega) (by omega) (by omega) hj h5 (by omega) ?_⟩
      unfold tg_pr
      rw [show i + a - i = a by omega, show i + b - i = b by omega]
  · intro hf k w hk hw hkw h i p q j h1 h2 h3 h4 ek ew
    subst ew
    subst ek
    have Fl := (tg_F3 o ho j (by omega) q (by omega) p (by omega) i (by omega)).2
    refine (C v hv).2 hf p q _ h2 (by omega) ?_
    rcases h with h | ⟨zf, a, ha, b, hab, hb, z1, z2⟩
    · exact Or.inl (tg_IP_x ho hn h1 h2 h3 h4 h)
    · rw [Fl] at hb
      have Fa := tg_F6a o ho j (by omega) (q + (b - (p - i))) (by omega) q (by omega) p (by omega) (i + a) (by omega) i (by omega)
      have Fb := tg_F6b o ho j (by omega) (q + (b - (p - i))) (by omega) q (by omega) p (by omega) (i + a) (by omega) i (by omega)
      rw [show i + a - i = a by omega, show p - i + (q + (b - (p - i)) - q) = b by omega] at Fa Fb
      rw [Fa, show p - i - a = p - (i + a) by omega] at z2
      exact Or.inr ⟨zf, (i + a) * 6 + (q + (b - (p - i))), by omega, tg_IP_x ho hn (by omega) h2 (by omega) (by omega) z2, tg_SW_x X z1 (by omega) (by omega) (by omega) h4 h5 (by omega) Fb.symm⟩
/-- what the finished chart says of the word -/
def tg_XR (n o g T : Nat) (G : Nat → Nat → Nat) (R : Nat → Nat) (W P B : Nat → Int64) : Prop :=
  (∀ v, v < g → (tg_b (W v) n = true ↔ tg_LW g T G R v o)) ∧ (∀ v k, v < g → k ≤ n → (tg_b (P (v * 36 + (k * 6 + k))) n = true ↔ tg_LP g T G R v k o)) ∧
  (∀ a, a < 3 → (tg_b (B a) n = true ↔ tg_BW (tg_LW g T G R) T G R a o))
theorem tg_XR_of (ho : o < 63) (hn : tg_wl o = n) (hG : tg_Gr g T G R) (S : tg_XS n o g T G R W P B E) (X : tg_XG T G R W P B E) (C : ∀ v, v < g → tg_XC n o G W P B E v) : tg_XR n o g T G R W P B := by
  have h5 : n ≤ 5 := hn ▸ tg_wl5 o
  have cl := tg_x_cl ho hn X C
  have F9 := tg_F9 o ho
  rw [hn] at F9
  have n6 : n / 6 = 0 := by omega
  have n7 : n % 6 = n := by omega
  have hW : ∀ v, tg_LW g T G R v o → tg_b (W v) n = true := by
    intro v h
    have := h _ _ cl 0 n (by omega) (Nat.le_refl n) F9.1
    rwa [show 0 * 6 + n = n by omega] at this
  refine ⟨fun v hv => ⟨fun h => ?_, hW v⟩, fun v k hv hk => ⟨fun h => ?_, fun h => ?_⟩, fun a ha => ⟨fun h => ?_, fun h => ?_⟩⟩
  · have := (S.1 v n hv h).2
    rw [n6, n7, F9.1] at this
    exact this
  · have := (S.2.1 v (k * 6 + k) n hv (by omega) h).2
    unfold tg_pq at this
    rw [n6, n7, (tg_cut6 k k (by omega)).1, (tg_cut6 k k (by omega)).2, F9.2 k (by omega)] at this
    exact this
  · have := h _ _ cl 0 k k n (by omega) (Nat.le_refl k) hk (Nat.le_refl n) (by omega) (F9.2 k (by omega))
    rwa [show 0 * 6 + n = n by omega] at this
  · have := (S.2.2.1 a n ha h).2
    rw [n6, n7, F9.1] at this
    exact this
  · obtain ⟨t, ht, z1, z2, z3⟩ := h
    have := (X t ht).1 z1 n (hW _ z3)
    rw [z2] at this
    exact this
end
end
section
/-! the chart's steps -/
def tg_XI (n o g T : Nat) (G : Nat → Nat → Nat) (R : Nat → Nat) (W P B E : Nat → Int64) : Prop := tg_XS n o g T G R W P B E ∧ tg_XA n o g G W P B E
def tg_xc (g : Nat) (G : Nat → Nat → Nat) (W P : Nat → Int64) (c : Nat) : Bool :=
  if G (c / 1296) 5 = 1 then (decide (c / 1296 < g) && tg_b (P (c / 36)) (c % 36)) else (decide (c % 1296 < 36) && tg_b (W (c / 1296)) (c % 36))
def tg_xn (g : Nat) (G : Nat → Nat → Nat) (W P : Nat → Int64) : Nat := tg_nc (tg_xc g G W P) (24 * 1296)
def tg_mask (i : Nat) : Bool := decide (i % 36 / 6 ≤ i / 36 / 6) && (decide (i / 36 / 6 ≤ i / 36 % 6) && decide (i / 36 % 6 ≤ i % 36 % 6))
theorem tg_mask126 : tg_nc tg_mask 1296 ≤ 126 := by decide +kernel
theorem tg_mask36 : tg_nc (fun i => decide (i < 36)) 1296 ≤ 126 := by decide +kernel
section
variable {n o g T : Nat} {G : Nat → Nat → Nat} {R : Nat → Nat} {W P B E W' P' B' E' : Nat → Int64}
theorem tg_xn_le (hG : tg_Gr g T G R) (S : tg_XS n o g T G R W P B E) : tg_xn g G W P ≤ 3024 := by
  refine tg_nc_blk _ 1296 126 24 (fun x hx => ?_)
  by_cases e : G x 5 = 1
  · refine Nat.le_trans (tg_nc_mono (Q := tg_mask) 1296 (fun i hi h => ?_)) tg_mask126
    unfold tg_xc at h
    rw [show (x * 1296 + i) / 1296 = x by omega, if_pos e, show (x * 1296 + i) / 36 = x * 36 + i / 36 by omega, show (x * 1296 + i) % 36 = i % 36 by omega] at h
    simp only [Bool.and_eq_true, decide_eq_true_eq] at h
    obtain ⟨⟨c1, c2, c3, c4⟩, _⟩ := S.2.1 x (i / 36) (i % 36) h.1 (by omega) h.2
    unfold tg_mask
    simp only [Bool.and_eq_true, decide_eq_true_eq]
    exact ⟨c1, c2, c3⟩
  · refine Nat.le_trans (tg_nc_mono (Q := fun i => decide (i < 36)) 1296 (fun i hi h => ?_)) tg_mask36
    unfold tg_xc at h
    rw [show (x * 1296 + i) / 1296 = x by omega, if_neg e, show (x * 1296 + i) % 1296 = i by omega] at h
    simp only [Bool.and_eq_true] at h
    exact h.1
theorem tg_xc_mono (hW : ∀ v b, tg_b (W v) b = true → tg_b (W' v) b = true) (hP : ∀ v b, tg_b (P v) b = true → tg_b (P' v) b = true) (c : Nat) : tg_xc g G W P c = true → tg_xc g G W' P' c = true := by
  unfold tg_xc
  by_cases e : G (c / 1296) 5 = 1
  · rw [if_pos e, if_pos e]
    simp only [Bool.and_eq_true]
    exact fun ⟨a, b⟩ => ⟨a, hP _ _ b⟩
  · rw [if_neg e, if_neg e]
    simp only [Bool.and_eq_true]
    exact fun ⟨a, b⟩ => ⟨a, hW _ _ b⟩
theorem tg_xn_mono (hW : ∀ v b, tg_b (W v) b = true → tg_b (W' v) b = true) (hP : ∀ v b, tg_b (P v) b = true → tg_b (P' v) b = true) : tg_xn g G W P ≤ tg_xn g G W' P' :=
  tg_nc_mono _ (fun c _ => tg_xc_mono hW hP c)
theorem tg_xstepW (ho : o < 63) (hn : tg_wl o = n) (hG : tg_Gr g T G R) (I : tg_XI n o g T G R W P B E) {v : Nat} (hv : v < g) (hf : G v 5 = 0) {r : Int64}
    (hr : ∀ b, tg_b r b = true ↔ tg_xW n o G W B E v b) : tg_XI n o g T G R (vp_updL W v r) P B E ∧ (∀ v' b, tg_b (W v') b = true → tg_b (vp_updL W v r v') b = true) := by
  obtain ⟨S, A⟩ := I
  have up : ∀ v' b, tg_b (W v') b = true → tg_b (vp_updL W v r v') b = true := by
    intro v' b h
    by_cases e : v' = v
    · subst e; rw [pk_uLs, hr]; exact A.1 _ _ hv hf h
    · rw [pk_uLn e]; exact h
  refine ⟨⟨⟨?_, S.2⟩, ⟨?_, ?_⟩⟩, up⟩
  · intro v' b hv' h
    by_cases e : v' = v
    · subst e; rw [pk_uLs, hr] at h; exact tg_xW_true ho hn hG S hv hf h
    · rw [pk_uLn e] at h; exact S.1 _ _ hv' h
  · intro v' b hv' hf' h
    refine tg_xW_mono up (fun _ _ z => z) (fun _ _ z => z) ?_
    by_cases e : v' = v
    · subst e; rw [pk_uLs, hr] at h; exact h
    · rw [pk_uLn e] at h; exact A.1 _ _ hv' hf' h
  · intro v' s b hv' hs hf' h
    exact tg_xP_mono up (fun _ _ z => z) (fun _ _ z => z) (A.2 _ _ _ hv' hs hf' h)
theorem tg_xstepP (ho : o < 63) (hn : tg_wl o = n) (hG : tg_Gr g T G R) (I : tg_XI n o g T G R W P B E) {v s : Nat} (hv : v < g) (hf : G v 5 = 1) (hs : s < 36) (hs1 : s / 6 ≤ s % 6) (hs2 : s % 6 ≤ n) {r : Int64}
    (hr : ∀ b, tg_b r b = true ↔ tg_xP n G W P E v s b) : tg_XI n o g T G R W (vp_updL P (v * 36 + s) r) B E ∧ (∀ i b, tg_b (P i) b = true → tg_b (vp_updL P (v * 36 + s) r i) b = true) := by
  obtain ⟨S, A⟩ := I
  have up : ∀ i b, tg_b (P i) b = true → tg_b (vp_updL P (v * 36 + s) r i) b = true := by
    intro i b h
    by_cases e : i = v * 36 + s
    · subst e; rw [pk_uLs, hr]; exact A.2 _ _ _ hv hs hf h
    · rw [pk_uLn e]; exact h
  refine ⟨⟨⟨S.1, ?_, S.2.2⟩, ⟨?_, ?_⟩⟩, up⟩
  · intro v' s' b hv' hs' h
    by_cases e : v' * 36 + s' = v * 36 + s
    · obtain ⟨rfl, rfl⟩ : v' = v ∧ s' = s := by omega
      rw [pk_uLs, hr] at h; exact tg_xP_true ho hn hG S hv hf hs hs1 hs2 h
    · rw [pk_uLn e] at h; exact S.2.1 _ _ _ hv' hs' h
  · intro v' b hv' hf' h
    exact tg_xW_mono (fun _ _ z => z) (fun _ _ z => z) (fun _ _ z => z) (A.1 _ _ hv' hf' h)
  · intro v' s' b hv' hs' hf' h
    refine tg_xP_mono (fun _ _ z => z) up (fun _ _ z => z) ?_
    by_cases e : v' * 36 + s' = v * 36 + s
    · obtain ⟨rfl, rfl⟩ : v' = v ∧ s' = s := by omega
      rw [pk_uLs, hr] at h; exact h
    · rw [pk_uLn e] at h; exact A.2 _ _ _ hv' hs' hf' h
theorem tg_xltW {v : Nat} (hv : v < 24) (hf : G v 5 = 0) {r : Int64} (up : ∀ v' b, tg_b (W v') b = true → tg_b (vp_updL W v r v') b = true) (h36 : ∀ b, tg_b r b = true → b < 36) (ne : r ≠ W v) :
    tg_xn g G W P < tg_xn g G (vp_updL W v r) P := by
  obtain ⟨w, h1, h2⟩ := tg_newbit (x := W v) (y := r) (fun w h => by have := up v w h; rwa [pk_uLs] at this) ne
  have hw := h36 w h1
  refine tg_nc_lt _ (fun c _ => tg_xc_mono up (fun _ _ h => h) c) ⟨v * 1296 + w, by omega, ?_, ?_⟩
  · unfold tg_xc
    rw [show (v * 1296 + w) / 1296 = v by omega, if_neg (by omega), show (v * 1296 + w) % 36 = w by omega, show (v * 1296 + w) % 1296 = w by omega, pk_uLs, h1, decide_eq_true hw]
    rfl
  · unfold tg_xc
    rw [show (v * 1296 + w) / 1296 = v by omega, if_neg (by omega), show (v * 1296 + w) % 36 = w by omega, show (v * 1296 + w) % 1296 = w by omega, decide_eq_true hw, Bool.true_and]
    exact h2
theorem tg_xltP {v s : Nat} (hv : v < g) (hg : g ≤ 24) (hs : s < 36) (hf : G v 5 = 1) {r : Int64} (up : ∀ i b, tg_b (P i) b = true → tg_b (vp_updL P (v * 36 + s) r i) b = true) (h36 : ∀ b, tg_b r b = true → b < 36) (ne : r ≠ P (v * 36 + s)) :
    tg_xn g G W P < tg_xn g G W (vp_updL P (v * 36 + s) r) := by
  obtain ⟨w, h1, h2⟩ := tg_newbit (x := P (v * 36 + s)) (y := r) (fun w h => by have := up _ w h; rwa [pk_uLs] at this) ne
  have hw := h36 w h1
  refine tg_nc_lt _ (fun c _ => tg_xc_mono (fun _ _ h => h) up c) ⟨v * 1296 + (s * 36 + w), by omega, ?_, ?_⟩
  · unfold tg_xc
    rw [show (v * 1296 + (s * 36 + w)) / 1296 = v by omega, if_pos hf, show (v * 1296 + (s * 36 + w)) % 36 = w by omega, show (v * 1296 + (s * 36 + w)) / 36 = v * 36 + s by omega, pk_uLs, h1, decide_eq_true hv]
    rfl
  · unfold tg_xc
    rw [show (v * 1296 + (s * 36 + w)) / 1296 = v by omega, if_pos hf, show (v * 1296 + (s * 36 + w)) % 36 = w by omega, show (v * 1296 + (s * 36 + w)) / 36 = v * 36 + s by omega, decide_eq_true hv, Bool.true_and]
    exact h2
/-! gather -/
def tg_gB (T : Nat) (G : Nat → Nat → Nat) (R : Nat → Nat) (W B B' : Nat → Int64) : Prop :=
  ∀ a b, tg_b (B' a) b = true ↔ (tg_b (B a) b = true ∨ ∃ t, t < T ∧ G (R t) 5 = 0 ∧ G (R t) 1 = a ∧ tg_b (W (R t)) b = true)
def tg_gE (T : Nat) (G : Nat → Nat → Nat) (R : Nat → Nat) (P E E' : Nat → Int64) : Prop :=
  ∀ i b, tg_b (E' i) b = true ↔ (tg_b (E i) b = true ∨ ∃ t, t < T ∧ G (R t) 5 = 1 ∧ ∃ s, s < 36 ∧ i = G (R t) 1 * 36 + s ∧ tg_b (P (R t * 36 + s)) b = true)
theorem tg_gather (hG : tg_Gr g T G R) (I : tg_XI n o g T G R W P B E) (hB : tg_gB T G R W B B') (hE : tg_gE T G R P E E') :
    tg_XI n o g T G R W P B' E' ∧ tg_XG T G R W P B' E' := by
  obtain ⟨S, A⟩ := I
  have uB : ∀ v b, tg_b (B v) b = true → tg_b (B' v) b = true := fun v b h => (hB v b).mpr (Or.inl h)
  have uE : ∀ v b, tg_b (E v) b = true → tg_b (E' v) b = true := fun v b h => (hE v b).mpr (Or.inl h)
  refine ⟨⟨⟨S.1, S.2.1, ?_, ?_⟩, ⟨?_, ?_⟩⟩, ?_⟩
  · intro a b ha h
    rcases (hB a b).mp h with h | ⟨t, ht, h1, h2, h3⟩
    · exact S.2.2.1 a b ha h
    · have := S.1 _ _ (hG.2.2.2 t ht).1 h3
      exact ⟨this.1, t, ht, h1, h2, this.2⟩
  · intro a s b ha hs h
    rcases (hE _ b).mp h with h | ⟨t, ht, h1, s', hs', e, h3⟩
    · exact S.2.2.2 a s b ha hs h
    · obtain ⟨e1, rfl⟩ : a = G (R t) 1 ∧ s = s' := by omega
      have := S.2.1 _ _ _ (hG.2.2.2 t ht).1 hs h3
      exact ⟨this.1, t, ht, h1, e1.symm, this.2⟩
  · exact fun v b hv hf h => tg_xW_mono (fun _ _ z => z) uB uE (A.1 v b hv hf h)
  · exact fun v s b hv hs hf h => tg_xP_mono (fun _ _ z => z) (fun _ _ z => z) uE (A.2 v s b hv hs hf h)
  · exact fun t ht => ⟨fun h b z => (hB _ b).mpr (Or.inr ⟨t, ht, h, rfl, z⟩), fun h s b hs z => (hE _ b).mpr (Or.inr ⟨t, ht, h, s, hs, rfl, z⟩)⟩
theorem tg_gather_same (X : tg_XG T G R W P B E) (hB : tg_gB T G R W B B') (hE : tg_gE T G R P E E') : B' = B ∧ E' = E := by
  constructor
  · funext a
    refine tg_exti (fun b => ⟨fun h => ?_, fun h => (hB a b).mpr (Or.inl h)⟩)
    rcases (hB a b).mp h with h | ⟨t, ht, h1, h2, h3⟩
    · exact h
    · rw [← h2]; exact (X t ht).1 h1 b h3
  · funext a
    refine tg_exti (fun b => ⟨fun h => ?_, fun h => (hE a b).mpr (Or.inl h)⟩)
    rcases (hE a b).mp h with h | ⟨t, ht, h1, s, hs, e, h3⟩
    · exact h
    · rw [e]; exact (X t ht).2 h1 s b hs h3
/-- a sweep at node v, flag m -/
def tg_Xs (n o g T : Nat) (G : Nat → Nat → Nat) (R : Nat → Nat) (B E W0 P0 : Nat → Int64) (v : Nat) (m : Int32) (W P : Nat → Int64) : Prop :=
  tg_XI n o g T G R W P B E ∧ ((m = 0 ∧ W = W0 ∧ P = P0 ∧ ∀ v', v' < v → tg_XC n o G W P B E v') ∨ (m = 1 ∧ tg_xn g G W0 P0 < tg_xn g G W P))
/-- within a footed node v -/
def tg_Xk (n o g T : Nat) (G : Nat → Nat → Nat) (R : Nat → Nat) (B E W0 P0 : Nat → Int64) (v p q : Nat) (m : Int32) (W P : Nat → Int64) : Prop :=
  tg_XI n o g T G R W P B E ∧ ((m = 0 ∧ W = W0 ∧ P = P0 ∧ (∀ v', v' < v → tg_XC n o G W P B E v') ∧
    (∀ p' q' b, p' ≤ q' → q' ≤ n → (p' < p ∨ (p' = p ∧ q' < q)) → tg_xP n G W P E v (p' * 6 + q') b → tg_b (P (v * 36 + (p' * 6 + q'))) b = true)) ∨ (m = 1 ∧ tg_xn g G W0 P0 < tg_xn g G W P))
end
end
section
/-! the reference's walks: reading -/
theorem tg_br {c A B : Prop} (d : Prop) (e : c ↔ d) (f : d → A) (g : ¬ d → B) : (c → A) ∧ (¬ c → B) := ⟨fun h => f (e.mp h), fun h => g (fun z => h (e.mpr z))⟩
def tg_YN (n : Nat → Nat) (k m fx fi se ft : Int32) : Prop :=
  k = nI (n 0) ∧ ((n 0 = 3 ∨ 5 ≤ n 0) → m = nI (n 1)) ∧ fx = nI (n 4) ∧ (5 ≤ n 0 → fi = nI (n 2)) ∧ (n 0 = 6 → se = nI (n 3)) ∧ ft = nI (n 5)
def tg_YG (g T : Nat) (G : Nat → Nat → Nat) (R : Nat → Nat) (f_trees : Int32) (a_kind a_label a_fixed a_first a_second a_overFoot a_roots : Nat → Int32) : Prop :=
  f_trees = nI T ∧ (∀ v, v < g → tg_YN (G v) (a_kind v) (a_label v) (a_fixed v) (a_first v) (a_second v) (a_overFoot v)) ∧ ∀ t, t < T → a_roots t = nI (R t)
theorem tg_wlA : ∀ w, w < 63 → ∀ l, l < 5 → (l < tg_wl w ↔ 2 ^ (l + 1) - 1 ≤ w) := by decide +kernel
theorem tg_shA : ∀ l, l < 5 → ((1 : Int32) <<< ((nI l + 1) &&& 31)) - 1 = nI (2 ^ (l + 1) - 1) := by decide +kernel
theorem tg_ptE : ∀ w, w < 63 → ∀ j, j < tg_wl w + 1 → ∀ i, i < j + 1 →
    (((1 : Int32) <<< ((nI j - nI i) &&& 31)) - 1) + (((nI w - (((1 : Int32) <<< (nI (tg_wl w) &&& 31)) - 1)) >>> ((nI (tg_wl w) - nI j) &&& 31)) &&& (((1 : Int32) <<< ((nI j - nI i) &&& 31)) - 1)) = nI (tg_pt w i j) := by decide +kernel
theorem tg_woE : ∀ w, w < 63 → ∀ j, j < tg_wl w + 1 → ∀ i, i < j + 1 →
    (((((1 : Int32) <<< (((nI (tg_wl w) - nI j) + nI i) &&& 31)) - 1) + (((nI w - (((1 : Int32) <<< (nI (tg_wl w) &&& 31)) - 1)) >>> ((nI (tg_wl w) - nI i) &&& 31)) <<< ((nI (tg_wl w) - nI j) &&& 31))) + ((nI w - (((1 : Int32) <<< (nI (tg_wl w) &&& 31)) - 1)) &&& (((1 : Int32) <<< ((nI (tg_wl w) - nI j) &&& 31)) - 1))) = nI (tg_wo w i j) := by decide +kernel
section
variable {f_count f_trees f_grown f_depth : Int32} {a_kind a_label a_fixed a_first a_second a_overFoot a_roots a_stack : Nat → Int32} {a_words a_pairs : Nat → Int64}
theorem tg_y_lenOf2 {post : Int32 → Prop} {w : Nat} (hw : w < 63) (h : post (nI (tg_wl w))) : ∀ d l n, l + d = tg_wl w → d < n → wY_lenOf_2 post (nI w) f_count f_trees f_grown f_depth a_kind a_label a_fixed a_first a_second a_overFoot a_roots a_stack a_words a_pairs n (nI l) := by
  have h5 := tg_wl5 w
  intro d
  induction d with
  | zero =>
    intro l n hl hn
    obtain ⟨m, rfl⟩ : ∃ m, n = m + 1 := ⟨n - 1, by omega⟩
    obtain rfl : l = tg_wl w := by omega
    refine br_c (fun _ => h) (fun z => ?_)
    have l5 : tg_wl w < 5 := by
      apply Classical.byContradiction
      intro q
      exact z (nI_le (a := 5) (by omega) (by omega))
    refine br_t ?_ h
    rw [tg_shA _ l5]
    have := tg_wlA w hw _ l5
    have p2 : 2 ^ (tg_wl w + 1) ≤ 2 ^ 5 := Nat.pow_le_pow_right (by decide) (by omega)
    exact nI_lt (by omega) (by omega)
  | succ d ih =>
    intro l n hl hn
    obtain ⟨m, rfl⟩ : ∃ m, n = m + 1 := ⟨n - 1, by omega⟩
    refine br_f (nI_ge (b := 5) (by omega) (by decide)) (br_f ?_ ?_)
    · rw [tg_shA _ (by omega)]
      have := (tg_wlA w hw l (by omega)).mp (by omega)
      exact nI_nlt this (by omega)
    · exact nm_r (nI_1 l) (ih (l + 1) m (by omega) (by omega))
theorem tg_y_lenOf {post : Int32 → Prop} {w : Nat} (hw : w < 63) (h : post (nI (tg_wl w))) : wpY_lenOf post (f_count, f_trees, f_grown, f_depth, a_kind, a_label, a_fixed, a_first, a_second, a_overFoot, a_roots, a_stack, a_words, a_pairs) (nI w) :=
  ⟨6, tg_y_lenOf2 hw h (tg_wl w) 0 6 (by omega) (by have := tg_wl5 w; omega)⟩
theorem tg_y_part {post : Int32 → Prop} {w i j : Nat} (hw : w < 63) (hj : j < tg_wl w + 1) (hi : i < j + 1) (h : post (nI (tg_pt w i j))) : wpY_part post (f_count, f_trees, f_grown, f_depth, a_kind, a_label, a_fixed, a_first, a_second, a_overFoot, a_roots, a_stack, a_words, a_pairs) (nI w) (nI i) (nI j) := by
  unfold wpY_part
  dsimp only
  refine tg_y_lenOf hw (nm_e ?_)
  rw [tg_ptE w hw j hj i hi]
  exact h
theorem tg_y_without {post : Int32 → Prop} {w i j : Nat} (hw : w < 63) (hj : j < tg_wl w + 1) (hi : i < j + 1) (h : post (nI (tg_wo w i j))) : wpY_without post (f_count, f_trees, f_grown, f_depth, a_kind, a_label, a_fixed, a_first, a_second, a_overFoot, a_roots, a_stack, a_words, a_pairs) (nI w) (nI i) (nI j) := by
  unfold wpY_without
  dsimp only
  refine tg_y_lenOf hw (nm_e (nm_e (nm_e ?_)))
  rw [tg_woE w hw j hj i hi]
  exact h
theorem tg_y_holds {post : Int32 → Prop} {x : Int64} {w : Nat} (hw : w < 64) (h1 : tg_b x w = true → post 1) (h0 : ¬ tg_b x w = true → post 0) : wpY_holds post (f_count, f_trees, f_grown, f_depth, a_kind, a_label, a_fixed, a_first, a_second, a_overFoot, a_roots, a_stack, a_words, a_pairs) x (nI w) :=
  tg_br _ (tg_sbit x hw) h1 h0
theorem tg_y_someWrapper {g T : Nat} {G : Nat → Nat → Nat} {R : Nat → Nat} (hG : tg_Gr g T G R) (hY : tg_YG g T G R f_trees a_kind a_label a_fixed a_first a_second a_overFoot a_roots)
    {post : Int32 → Prop} {a k w : Nat} (ha : a < 3) (hk : k < 6) (hw : w < 63) (h1 : tg_SW (tg_yp a_pairs) T G R a k w → post 1) (h0 : ¬ tg_SW (tg_yp a_pairs) T G R a k w → post 0) : wpY_someWrapper post (f_count, f_trees, f_grown, f_depth, a_kind, a_label, a_fixed, a_first, a_second, a_overFoot, a_roots, a_stack, a_words, a_pairs) (nI a) (nI k) (nI w) := by
  obtain ⟨rfl, hN, hR⟩ := hY
  refine tg_srchE (fun n i => wY_someWrapper_3 post (nI a) (nI k) (nI w) f_count (nI T) f_grown f_depth a_kind a_label a_fixed a_first a_second a_overFoot a_roots a_stack a_words a_pairs n (nI i)) (fun i => G (R i) 5 = 1 ∧ G (R i) 1 = a ∧ tg_yp a_pairs (R i) k w) T 0 (post 1) (post 0) (by omega) ?_ ?_ ?_ ?_
  · exact fun n h => br_t (nI_le (Nat.le_refl T) (by have := hG.2.1; omega)) h
  · intro n i _ hi p1 p0
    have T4 := hG.2.1
    have g24 := hG.1
    obtain ⟨hr, k5⟩ := hG.2.2.2 i hi
    have gn := hG.2.2.1 _ hr
    have yn := hN _ hr
    have cl : (nI i).toNatClampNeg = i := nI_clamp (by omega)
    have clr : (nI (R i)).toNatClampNeg = R i := nI_clamp (by omega)
    have i4 : vp_in (nI i) 4 := vp_in_nI (by omega) (by decide)
    have i24 : vp_in (nI (R i)) 24 := vp_in_nI (by omega) (by decide)
    have i144 : vp_in (6 * nI (R i) + nI k) 144 := by
      rw [show (6 : Int32) = nI 6 from rfl, pk_mul, nI_add]; exact vp_in_nI (by omega) (by decide)
    have c144 : (6 * nI (R i) + nI k).toNatClampNeg = 6 * R i + k := by
      rw [show (6 : Int32) = nI 6 from rfl, pk_mul, nI_add]; exact nI_clamp (by omega)
    refine br_f (nI_ge hi (by omega)) ?_
    rw [cl, hR i hi, clr, yn.2.2.2.2.2, yn.2.1 (Or.inr k5), c144]
    refine ⟨i4, i24, tg_br (G (R i) 5 = 0) (nI_eq (b := 0) (by have := gn.2.2.2.2.2.2.1; omega) (by decide)) (fun z => ?_) (fun z => ⟨i4, i24, tg_br (G (R i) 1 = a) (nI_eq (by have := gn.2.1 (Or.inr k5); omega) (by omega)) (fun y => ⟨i4, i144, ?_⟩) (fun y => ?_)⟩)⟩
    · exact nm_r (nI_1 i) (p0 (fun ⟨q, _⟩ => by omega))
    · refine tg_y_holds (by omega) (fun q => ?_) (fun q => ?_)
      · exact br_f (by decide) (p1 ⟨by have := gn.2.2.2.2.2.2.1; omega, y, q⟩)
      · exact br_t rfl (nm_r (nI_1 i) (p0 (fun ⟨_, _, c⟩ => q c)))
    · exact nm_r (nI_1 i) (p0 (fun ⟨_, q, _⟩ => y q))
  · exact fun ⟨t, _, ht, z1, z2, z3⟩ => h1 ⟨t, ht, z1, z2, z3⟩
  · exact fun z => h0 (fun ⟨t, ht, z1, z2, z3⟩ => z ⟨t, by omega, ht, z1, z2, z3⟩)
theorem tg_y_baseWords {g T : Nat} {G : Nat → Nat → Nat} {R : Nat → Nat} (hG : tg_Gr g T G R) (hY : tg_YG g T G R f_trees a_kind a_label a_fixed a_first a_second a_overFoot a_roots)
    {post : Int64 → Prop} {a : Nat} (ha : a < 3) (h : ∀ r, (∀ w, tg_b r w = true ↔ tg_BW (tg_yw a_words) T G R a w) → post r) : wpY_baseWords post (f_count, f_trees, f_grown, f_depth, a_kind, a_label, a_fixed, a_first, a_second, a_overFoot, a_roots, a_stack, a_words, a_pairs) (nI a) := by
  obtain ⟨rfl, hN, hR⟩ := hY
  refine pk_loop (fun n i s => wY_baseWords_5 post (nI a) f_count (nI T) f_grown f_depth a_kind a_label a_fixed a_first a_second a_overFoot a_roots a_stack a_words a_pairs n s (nI i)) (fun i s => ∀ w, tg_b s w = true ↔ ∃ t, t < i ∧ G (R t) 5 = 0 ∧ G (R t) 1 = a ∧ tg_yw a_words (R t) w) T 0 0 (by omega) ?_ ?_ ?_
  · exact fun w => ⟨fun z => absurd z tg_0n, fun ⟨t, ht, _⟩ => by omega⟩
  · exact fun n s I => br_t (nI_le (Nat.le_refl T) (by have := hG.2.1; omega)) (h s I)
  · intro n i s hi I K
    have T4 := hG.2.1
    have g24 := hG.1
    obtain ⟨hr, k5⟩ := hG.2.2.2 i hi
    have gn := hG.2.2.1 _ hr
    have yn := hN _ hr
    have cl : (nI i).toNatClampNeg = i := nI_clamp (by omega)
    have clr : (nI (R i)).toNatClampNeg = R i := nI_clamp (by omega)
    have i4 : vp_in (nI i) 4 := vp_in_nI (by omega) (by decide)
    have i24 : vp_in (nI (R i)) 24 := vp_in_nI (by omega) (by decide)
    have skip : ¬ (G (R i) 5 = 0 ∧ G (R i) 1 = a) → ∀ w, tg_b s w = true ↔ ∃ t, t < i + 1 ∧ G (R t) 5 = 0 ∧ G (R t) 1 = a ∧ tg_yw a_words (R t) w := by
      intro z w
      rw [I w]
      constructor
      · exact fun ⟨t, ht, q⟩ => ⟨t, by omega, q⟩
      · intro ⟨t, ht, q1, q2, q3⟩
        by_cases e : t = i
        · subst e; exact absurd ⟨q1, q2⟩ z
        · exact ⟨t, by omega, q1, q2, q3⟩
    refine br_f (nI_ge hi (by omega)) ?_
    rw [cl, hR i hi, clr, yn.2.2.2.2.2, yn.2.1 (Or.inr k5)]
    refine ⟨i4, i24, tg_br (G (R i) 5 = 0) (nI_eq (b := 0) (by have := gn.2.2.2.2.2.2.1; omega) (by decide)) (fun z => ⟨i4, i24, tg_br (G (R i) 1 = a) (nI_eq (by have := gn.2.1 (Or.inr k5); omega) (by omega)) (fun y => ⟨i4, i24, ?_⟩) (fun y => ?_)⟩) (fun z => ?_)⟩
    · refine nm_e (nm_r (nI_1 i) (K _ (fun w => ?_)))
      rw [tg_ori, I w]
      constructor
      · rintro (⟨t, ht, q⟩ | q)
        · exact ⟨t, by omega, q⟩
        · exact ⟨i, by omega, z, y, q⟩
      · intro ⟨t, ht, q1, q2, q3⟩
        by_cases e : t = i
        · subst e; exact Or.inr q3
        · exact Or.inl ⟨t, by omega, q1, q2, q3⟩
    · exact nm_r (nI_1 i) (K _ (skip (fun q => y q.2)))
    · exact nm_r (nI_1 i) (K _ (skip (fun q => z q.1)))
end
end
section
/-! the reference's walks: words of a node -/
section
variable {f_count f_trees f_grown f_depth : Int32} {a_kind a_label a_fixed a_first a_second a_overFoot a_roots a_stack : Nat → Int32} {a_words a_pairs : Nat → Int64}
variable {g T : Nat} {G : Nat → Nat → Nat} {R : Nat → Nat}
theorem tg_y_joined {post : Int32 → Prop} {x y w : Nat} (hx : x < 24) (hy : y < 24) (hw : w < 63) (h1 : tg_Jn (tg_yw a_words) x y w → post 1) (h0 : ¬ tg_Jn (tg_yw a_words) x y w → post 0) : wpY_joined post (f_count, f_trees, f_grown, f_depth, a_kind, a_label, a_fixed, a_first, a_second, a_overFoot, a_roots, a_stack, a_words, a_pairs) (nI x) (nI y) (nI w) := by
  unfold wpY_joined
  dsimp only
  have w5 := tg_wl5 w
  have clx : (nI x).toNatClampNeg = x := nI_clamp (by omega)
  have cly : (nI y).toNatClampNeg = y := nI_clamp (by omega)
  refine tg_y_lenOf hw (tg_srchE (fun n i => wY_joined_10 post (nI x) (nI y) (nI w) (nI (tg_wl w)) f_count f_trees f_grown f_depth a_kind a_label a_fixed a_first a_second a_overFoot a_roots a_stack a_words a_pairs n (nI i)) (fun i => tg_yw a_words x (tg_pt w 0 i) ∧ tg_yw a_words y (tg_pt w i (tg_wl w))) (tg_wl w + 1) 0 (post 1) (post 0) (by omega) ?_ ?_ ?_ ?_)
  · exact fun n h => br_t (nI_lt (by omega) (by omega)) h
  · intro n i _ hi p1 p0
    have b1 := (tg_F1 w hw i hi 0 (by omega)).1
    have b2 := (tg_F1 w hw (tg_wl w) (by omega) i (by omega)).1
    refine br_f (nI_nlt (by omega) (by omega)) (tg_y_part (i := 0) hw hi (by omega) (tg_y_part hw (by omega) (by omega) ⟨vp_in_nI hx (by decide), ?_⟩))
    rw [clx, cly]
    refine tg_y_holds (by omega) (fun q => ?_) (fun q => ?_)
    · refine br_f (by decide) ⟨vp_in_nI hy (by decide), tg_y_holds (by omega) (fun q2 => ?_) (fun q2 => ?_)⟩
      · exact br_f (by decide) (p1 ⟨q, q2⟩)
      · exact br_t rfl (nm_r (nI_1 i) (p0 (fun z => q2 z.2)))
    · exact br_t rfl (nm_r (nI_1 i) (p0 (fun z => q z.1)))
  · exact fun ⟨i, _, hi, z⟩ => h1 ⟨i, hi, z⟩
  · exact fun z => h0 (fun ⟨i, hi, q⟩ => z ⟨i, by omega, hi, q⟩)
theorem tg_y_wrapped (hG : tg_Gr g T G R) (hY : tg_YG g T G R f_trees a_kind a_label a_fixed a_first a_second a_overFoot a_roots)
    {post : Int32 → Prop} {s : Int64} {a w : Nat} (ha : a < 3) (hw : w < 63) (h1 : tg_Wr (fun z => tg_b s z = true) (tg_yp a_pairs) T G R a w → post 1) (h0 : ¬ tg_Wr (fun z => tg_b s z = true) (tg_yp a_pairs) T G R a w → post 0) : wpY_wrapped post (f_count, f_trees, f_grown, f_depth, a_kind, a_label, a_fixed, a_first, a_second, a_overFoot, a_roots, a_stack, a_words, a_pairs) s (nI a) (nI w) := by
  unfold wpY_wrapped
  dsimp only
  have w5 := tg_wl5 w
  refine tg_y_lenOf hw (tg_srchE (fun n i => wY_wrapped_11 post s (nI a) (nI w) (nI (tg_wl w)) f_count f_trees f_grown f_depth a_kind a_label a_fixed a_first a_second a_overFoot a_roots a_stack a_words a_pairs n (nI i)) (fun i => ∃ j, i ≤ j ∧ j < tg_wl w + 1 ∧ tg_b s (tg_pt w i j) = true ∧ tg_SW (tg_yp a_pairs) T G R a i (tg_wo w i j)) (tg_wl w + 1) 0 (post 1) (post 0) (by omega) ?_ ?_ ?_ ?_)
  · exact fun n h => br_t (nI_lt (by omega) (by omega)) h
  · intro n i _ hi p1 p0
    refine br_f (nI_nlt (by omega) (by omega)) (tg_srchE (fun n' j => wY_wrapped_22 post (wY_wrapped_11 post s (nI a) (nI w) (nI (tg_wl w)) f_count f_trees f_grown f_depth a_kind a_label a_fixed a_first a_second a_overFoot a_roots a_stack a_words a_pairs n) s (nI a) (nI w) (nI (tg_wl w)) (nI i) f_count f_trees f_grown f_depth a_kind a_label a_fixed a_first a_second a_overFoot a_roots a_stack a_words a_pairs n' (nI j)) (fun j => tg_b s (tg_pt w i j) = true ∧ tg_SW (tg_yp a_pairs) T G R a i (tg_wo w i j)) (tg_wl w + 1) i (post 1) (wY_wrapped_11 post s (nI a) (nI w) (nI (tg_wl w)) f_count f_trees f_grown f_depth a_kind a_label a_fixed a_first a_second a_overFoot a_roots a_stack a_words a_pairs n (nI (i + 1))) (by omega) ?_ ?_ ?_ ?_)
    · exact fun n' h => br_t (nI_lt (by omega) (by omega)) (nm_r (nI_1 i) h)
    · intro n' j hij hj q1 q0
      have b1 := (tg_F1 w hw j hj i (by omega)).1
      have b2 := (tg_Fw w hw j hj i (by omega)).1
      refine br_f (nI_nlt (by omega) (by omega)) (tg_y_part hw hj (by omega) (tg_y_without hw hj (by omega) (tg_y_holds (by omega) (fun q => br_f (by decide) (tg_y_someWrapper hG hY ha (by omega) b2 (fun y => ?_) (fun y => ?_))) (fun q => ?_))))
      · exact br_f (by decide) (q1 ⟨q, y⟩)
      · exact br_t rfl (nm_r (nI_1 j) (q0 (fun z => y z.2)))
      · exact br_t rfl (nm_r (nI_1 j) (q0 (fun z => q z.1)))
    · exact fun ⟨j, a1, a2, a3⟩ => p1 ⟨j, a1, a2, a3⟩
    · exact fun z => p0 (fun ⟨j, a1, a2, a3⟩ => z ⟨j, a1, a2, a3⟩)
  · exact fun ⟨i, _, hi, z⟩ => h1 ⟨i, hi, z⟩
  · exact fun z => h0 (fun ⟨i, hi, q⟩ => z ⟨i, by omega, hi, q⟩)
/-- the last loop of wordsOf -/
theorem tg_y_wordsOf147 (hG : tg_Gr g T G R) (hY : tg_YG g T G R f_trees a_kind a_label a_fixed a_first a_second a_overFoot a_roots)
    {post : Int64 → Prop} {v : Nat} (hv : v < g) (k5 : 5 ≤ G v 0) {s : Int64} (hs : ∀ w, tg_b s w = true ↔ (w < 63 ∧ tg_In (tg_yw a_words) G v w))
    (h : ∀ r, (∀ w, tg_b r w = true ↔ (w < 63 ∧ (tg_In (tg_yw a_words) G v w ∨ (G v 4 = 0 ∧ tg_Wr (tg_In (tg_yw a_words) G v) (tg_yp a_pairs) T G R (G v 1) w)))) → post r) : ∃ n, wY_wordsOf_147 post (nI v) s f_count f_trees f_grown f_depth a_kind a_label a_fixed a_first a_second a_overFoot a_roots a_stack a_words a_pairs n s 0 := by
  have g24 := hG.1
  have gn := hG.2.2.1 v hv
  have yn := hY.2.1 v hv
  have cl : (nI v).toNatClampNeg = v := nI_clamp (by omega)
  have i24 : vp_in (nI v) 24 := vp_in_nI (by omega) (by decide)
  refine pk_loop (fun n i r => wY_wordsOf_147 post (nI v) s f_count f_trees f_grown f_depth a_kind a_label a_fixed a_first a_second a_overFoot a_roots a_stack a_words a_pairs n r (nI i)) (fun i r => ∀ w, tg_b r w = true ↔ (tg_b s w = true ∨ (w < i ∧ G v 4 = 0 ∧ tg_Wr (fun z => tg_b s z = true) (tg_yp a_pairs) T G R (G v 1) w))) 63 0 s (by omega) ?_ ?_ ?_
  · exact fun w => ⟨Or.inl, fun z => z.elim id (fun q => by omega)⟩
  · intro n r I
    refine br_t (nI_le (Nat.le_refl 63) (by decide)) (h r (fun w => ?_))
    have key : w < 63 → (tg_Wr (fun z => tg_b s z = true) (tg_yp a_pairs) T G R (G v 1) w ↔ tg_Wr (tg_In (tg_yw a_words) G v) (tg_yp a_pairs) T G R (G v 1) w) := by
      intro hw
      constructor
      · exact fun ⟨i, hi, j, hij, hj, z1, z2⟩ => ⟨i, hi, j, hij, hj, ((hs _).mp z1).2, z2⟩
      · exact fun ⟨i, hi, j, hij, hj, z1, z2⟩ => ⟨i, hi, j, hij, hj, (hs _).mpr ⟨(tg_F1 w hw j hj i (by omega)).1, z1⟩, z2⟩
    rw [I w, hs w]
    constructor
    · rintro (⟨z1, z2⟩ | ⟨z1, z2, z3⟩)
      · exact ⟨z1, Or.inl z2⟩
      · exact ⟨z1, Or.inr ⟨z2, (key z1).mp z3⟩⟩
    · rintro ⟨z1, z2 | ⟨z2, z3⟩⟩
      · exact Or.inl ⟨z1, z2⟩
      · exact Or.inr ⟨z1, z2, (key z1).mpr z3⟩
  · intro n i r hi I K
    refine br_f (nI_ge (b := 63) hi (by decide)) ⟨i24, ?_⟩
    rw [cl, yn.2.2.1, yn.2.1 (Or.inr k5)]
    have stay : (¬ (G v 4 = 0 ∧ tg_Wr (fun z => tg_b s z = true) (tg_yp a_pairs) T G R (G v 1) i)) → ∀ w, tg_b r w = true ↔ (tg_b s w = true ∨ (w < i + 1 ∧ G v 4 = 0 ∧ tg_Wr (fun z => tg_b s z = true) (tg_yp a_pairs) T G R (G v 1) w)) := by
      intro ne w
      rw [I w]
      constructor
      · rintro (z | ⟨z1, z2⟩)
        · exact Or.inl z
        · exact Or.inr ⟨by omega, z2⟩
      · rintro (z | ⟨z1, z2⟩)
        · exact Or.inl z
        · by_cases e : w = i
          · subst e; exact absurd z2 ne
          · exact Or.inr ⟨by omega, z2⟩
    refine tg_br (G v 4 = 0) (nI_eq (b := 0) (by have := gn.2.2.2.2.1; omega) (by decide)) (fun z => ⟨i24, tg_y_wrapped hG hY (gn.2.1 (Or.inr k5)) hi (fun q => ?_) (fun q => ?_)⟩) (fun z => ?_)
    · refine br_f (by decide) (nm_e (nm_r (nI_1 i) (K _ (fun w => ?_))))
      rw [tg_ori, tg_one (by omega), I w]
      constructor
      · rintro ((z' | ⟨z1, z2⟩) | rfl)
        · exact Or.inl z'
        · exact Or.inr ⟨by omega, z2⟩
        · exact Or.inr ⟨by omega, z, q⟩
      · rintro (z' | ⟨z1, z2⟩)
        · exact Or.inl (Or.inl z')
        · by_cases e : w = i
          · exact Or.inr e
          · exact Or.inl (Or.inr ⟨by omega, z2⟩)
    · exact br_t rfl (nm_r (nI_1 i) (K _ (stay (fun y => q y.2))))
    · exact nm_r (nI_1 i) (K _ (stay (fun y => z y.1)))
theorem tg_y_wordsOf85 (hG : tg_Gr g T G R) (hY : tg_YG g T G R f_trees a_kind a_label a_fixed a_first a_second a_overFoot a_roots)
    {post : Int64 → Prop} {v : Nat} (hv : v < g) (k5 : 5 ≤ G v 0) (h63 : ∀ v w, v < g → tg_yw a_words v w → w < 63) {s : Int64} (hs : ∀ w, tg_b s w = true ↔ (G v 0 = 5 ∧ tg_yw a_words (G v 2) w))
    (h : ∀ r, (∀ w, tg_b r w = true ↔ (w < 63 ∧ (tg_In (tg_yw a_words) G v w ∨ (G v 4 = 0 ∧ tg_Wr (tg_In (tg_yw a_words) G v) (tg_yp a_pairs) T G R (G v 1) w)))) → post r) : ∃ n, wY_wordsOf_85 post (nI v) f_count f_trees f_grown f_depth a_kind a_label a_fixed a_first a_second a_overFoot a_roots a_stack a_words a_pairs n s 0 := by
  have g24 := hG.1
  have gn := hG.2.2.1 v hv
  have yn := hY.2.1 v hv
  have cl : (nI v).toNatClampNeg = v := nI_clamp (by omega)
  have i24 : vp_in (nI v) 24 := vp_in_nI (by omega) (by decide)
  have c2 := tg_c2 hG hv k5
  refine pk_loop (fun n i r => wY_wordsOf_85 post (nI v) f_count f_trees f_grown f_depth a_kind a_label a_fixed a_first a_second a_overFoot a_roots a_stack a_words a_pairs n r (nI i)) (fun i r => ∀ w, tg_b r w = true ↔ (tg_b s w = true ∨ (w < i ∧ G v 0 = 6 ∧ tg_Jn (tg_yw a_words) (G v 2) (G v 3) w))) 63 0 s (by omega) ?_ ?_ ?_
  · exact fun w => ⟨Or.inl, fun z => z.elim id (fun q => by omega)⟩
  · intro n r I
    refine br_t (nI_le (Nat.le_refl 63) (by decide)) (tg_y_wordsOf147 hG hY hv k5 (fun w => ?_) h)
    rw [I w, hs w]
    constructor
    · rintro (⟨z1, z2⟩ | ⟨z1, z2⟩)
      · exact ⟨h63 _ _ c2 z2, Or.inl ⟨z1, z2⟩⟩
      · exact ⟨z1, Or.inr z2⟩
    · rintro ⟨z1, z2 | z2⟩
      · exact Or.inl z2
      · exact Or.inr ⟨z1, z2⟩
  · intro n i r hi I K
    refine br_f (nI_ge (b := 63) hi (by decide)) ⟨i24, ?_⟩
    rw [cl, yn.1, yn.2.2.2.1 k5]
    have stay : (¬ (G v 0 = 6 ∧ tg_Jn (tg_yw a_words) (G v 2) (G v 3) i)) → ∀ w, tg_b r w = true ↔ (tg_b s w = true ∨ (w < i + 1 ∧ G v 0 = 6 ∧ tg_Jn (tg_yw a_words) (G v 2) (G v 3) w)) := by
      intro ne w
      rw [I w]
      constructor
      · rintro (z | ⟨z1, z2⟩)
        · exact Or.inl z
        · exact Or.inr ⟨by omega, z2⟩
      · rintro (z | ⟨z1, z2⟩)
        · exact Or.inl z
        · by_cases e : w = i
          · subst e; exact absurd z2 ne
          · exact Or.inr ⟨by omega, z2⟩
    refine tg_br (G v 0 = 6) (nI_eq (b := 6) (by have := gn.1; omega) (by decide)) (fun z => ⟨i24, i24, ?_⟩) (fun z => ?_)
    · have c3 := tg_c3 hG hv z
      rw [yn.2.2.2.2.1 z]
      refine tg_y_joined (by omega) (by omega) hi (fun q => ?_) (fun q => ?_)
      · refine br_f (by decide) (nm_e (nm_r (nI_1 i) (K _ (fun w => ?_))))
        rw [tg_ori, tg_one (by omega), I w]
        constructor
        · rintro ((z' | ⟨z1, z2⟩) | rfl)
          · exact Or.inl z'
          · exact Or.inr ⟨by omega, z2⟩
          · exact Or.inr ⟨by omega, z, q⟩
        · rintro (z' | ⟨z1, z2⟩)
          · exact Or.inl (Or.inl z')
          · by_cases e : w = i
            · exact Or.inr e
            · exact Or.inl (Or.inr ⟨by omega, z2⟩)
      · exact br_t rfl (nm_r (nI_1 i) (K _ (stay (fun y => q y.2))))
    · exact nm_r (nI_1 i) (K _ (stay (fun y => z y.1)))
theorem tg_y_wordsOf (hG : tg_Gr g T G R) (hY : tg_YG g T G R f_trees a_kind a_label a_fixed a_first a_second a_overFoot a_roots)
    {post : Int64 → Prop} {v : Nat} (hv : v < g) (hf : G v 5 = 0) (h63 : ∀ v w, v < g → tg_yw a_words v w → w < 63)
    (h : ∀ r, (∀ w, tg_b r w = true ↔ (w < 63 ∧ tg_W (tg_yw a_words) (tg_yp a_pairs) T G R v w)) → post r) : wpY_wordsOf post (f_count, f_trees, f_grown, f_depth, a_kind, a_label, a_fixed, a_first, a_second, a_overFoot, a_roots, a_stack, a_words, a_pairs) (nI v) := by
  have g24 := hG.1
  have gn := hG.2.2.1 v hv
  have yn := hY.2.1 v hv
  have cl : (nI v).toNatClampNeg = v := nI_clamp (by omega)
  have i24 : vp_in (nI v) 24 := vp_in_nI (by omega) (by decide)
  have k6 := gn.1
  have big : 5 ≤ G v 0 → ∀ r, (∀ w, tg_b r w = true ↔ (w < 63 ∧ (tg_In (tg_yw a_words) G v w ∨ (G v 4 = 0 ∧ tg_Wr (tg_In (tg_yw a_words) G v) (tg_yp a_pairs) T G R (G v 1) w)))) → post r := by
    intro k5 r hr
    refine h r (fun w => ?_)
    rw [hr w]
    constructor
    · exact fun ⟨z1, z2⟩ => ⟨z1, Or.inr (Or.inr (Or.inr ⟨k5, z2⟩))⟩
    · rintro ⟨z1, ⟨z2, _⟩ | ⟨z2, _⟩ | ⟨z2, _⟩ | ⟨_, z2⟩⟩
      · omega
      · omega
      · omega
      · exact ⟨z1, z2⟩
  unfold wpY_wordsOf
  dsimp only
  rw [cl, yn.1]
  refine ⟨i24, tg_br (3 ≤ G v 0) (nI_leI (a := 3) (by decide) (by omega)) (fun k3 => ⟨i24, tg_br (G v 0 = 3) (nI_eq (b := 3) (by omega) (by decide)) (fun z => ⟨i24, ?_⟩) (fun z => ⟨i24, tg_br (G v 0 = 5) (nI_eq (b := 5) (by omega) (by decide)) (fun y => ⟨i24, ?_⟩) (fun y => ?_)⟩)⟩) (fun k3 => ⟨i24, tg_br (G v 0 = 2) (nI_eq (b := 2) (by omega) (by decide)) (fun z => ?_) (fun z => ⟨i24, ?_⟩)⟩)⟩
  · rw [yn.2.1 (Or.inl z)]
    refine tg_y_baseWords hG hY (gn.2.1 (Or.inl z)) (fun r hr => h r (fun w => ?_))
    rw [hr w]
    constructor
    · exact fun q => ⟨by obtain ⟨t, ht, _, _, q⟩ := q; exact h63 _ _ (hG.2.2.2 t ht).1 q, Or.inr (Or.inr (Or.inl ⟨z, q⟩))⟩
    · rintro ⟨z1, ⟨z2, _⟩ | ⟨z2, _⟩ | ⟨_, z2⟩ | ⟨z2, _⟩⟩
      · omega
      · omega
      · exact z2
      · omega
  · have c2 := tg_c2 hG hv (show 5 ≤ G v 0 by omega)
    rw [yn.2.2.2.1 (by omega)]
    refine ⟨vp_in_nI (by omega) (by decide), nm_e (tg_y_wordsOf85 hG hY hv (by omega) h63 (fun w => ?_) (big (by omega)))⟩
    rw [nI_clamp (by omega)]
    exact ⟨fun q => ⟨y, q⟩, fun q => q.2⟩
  · have k4 : G v 0 ≠ 4 := fun q => by have := gn.2.2.2.2.2.2.2.2 q; omega
    exact tg_y_wordsOf85 hG hY hv (by omega) h63 (fun w => ⟨fun q => absurd q tg_0n, fun q => by omega⟩) (big (by omega))
  · refine h 1 (fun w => ?_)
    rw [tg_1i, decide_eq_true_eq]
    constructor
    · exact fun q => ⟨by omega, Or.inr (Or.inl ⟨z, q⟩)⟩
    · rintro ⟨z1, ⟨z2, _⟩ | ⟨_, z2⟩ | ⟨z2, _⟩ | ⟨z2, _⟩⟩
      · omega
      · exact z2
      · omega
      · omega
  · refine h _ (fun w => ?_)
    rw [tg_two (by omega)]
    constructor
    · exact fun q => ⟨by omega, Or.inl ⟨by omega, q⟩⟩
    · rintro ⟨z1, ⟨_, z2⟩ | ⟨z2, _⟩ | ⟨z2, _⟩ | ⟨z2, _⟩⟩
      · exact z2
      · omega
      · omega
      · omega
end
end
section
/-! the reference's walks: pairs of a node -/
section
variable {f_count f_trees f_grown f_depth : Int32} {a_kind a_label a_fixed a_first a_second a_overFoot a_roots a_stack : Nat → Int32} {a_words a_pairs : Nat → Int64}
variable {g T : Nat} {G : Nat → Nat → Nat} {R : Nat → Nat}
theorem tg_y_f109 (hG : tg_Gr g T G R) (hY : tg_YG g T G R f_trees a_kind a_label a_fixed a_first a_second a_overFoot a_roots)
    {post : Int32 → Prop} {J : Int32 → Prop} {w l x y k c h t : Nat} (hx : x < g) (hy : y < g) (hk : k < 6) (hc : c < 6) (hh : h < 63) (ht : t < 63)
    (h1 : (G x 5 = 0 ∧ c ≤ k ∧ tg_yw a_words x h ∧ tg_yp a_pairs y (k - c) t) → post 1) (h0 : ¬ (G x 5 = 0 ∧ c ≤ k ∧ tg_yw a_words x h ∧ tg_yp a_pairs y (k - c) t) → J (nI (c + 1))) :
    wY_forked_109 post J (nI k) (nI w) (nI l) (nI x) (nI y) (nI c) (nI h) (nI t) f_count f_trees f_grown f_depth a_kind a_label a_fixed a_first a_second a_overFoot a_roots a_stack a_words a_pairs := by
  have g24 := hG.1
  have gn := hG.2.2.1 x hx
  have yn := hY.2.1 x hx
  have cl : (nI x).toNatClampNeg = x := nI_clamp (by omega)
  have i24 : vp_in (nI x) 24 := vp_in_nI (by omega) (by decide)
  unfold wY_forked_109
  rw [cl, yn.2.2.2.2.2]
  refine ⟨i24, tg_br (G x 5 = 0) (nI_eq (b := 0) (by have := gn.2.2.2.2.2.2.1; omega) (by decide)) (fun z => pk_lt k c (fun q => ?_) (fun q => ⟨i24, tg_y_holds (by omega) (fun q2 => br_f (by decide) ?_) (fun q2 => ?_)⟩)) (fun z => ?_)⟩
  · exact nm_r (nI_1 c) (h0 (fun z => by omega))
  · have e : 6 * nI y + nI k - nI c = nI (6 * y + (k - c)) := by
      rw [show (6 : Int32) = nI 6 from rfl, pk_mul, nI_add, pk_sub (by omega)]
      exact congrArg nI (by omega)
    rw [e, nI_clamp (by omega)]
    refine ⟨vp_in_nI (by omega) (by decide), tg_y_holds (by omega) (fun q3 => ?_) (fun q3 => ?_)⟩
    · exact br_f (by decide) (h1 ⟨z, q, q2, q3⟩)
    · exact br_t rfl (nm_r (nI_1 c) (h0 (fun y => q3 y.2.2.2)))
  · exact br_t rfl (nm_r (nI_1 c) (h0 (fun y => q2 y.2.2.1)))
  · exact nm_r (nI_1 c) (h0 (fun y => z y.1))
theorem tg_y_forked (hG : tg_Gr g T G R) (hY : tg_YG g T G R f_trees a_kind a_label a_fixed a_first a_second a_overFoot a_roots)
    {post : Int32 → Prop} {v k w : Nat} (hv : v < g) (k6 : G v 0 = 6) (hk : k < 6) (hw : w < 63)
    (h1 : tg_Fk (tg_yw a_words) (tg_yp a_pairs) G (G v 2) (G v 3) k w → post 1) (h0 : ¬ tg_Fk (tg_yw a_words) (tg_yp a_pairs) G (G v 2) (G v 3) k w → post 0) :
    wpY_forked post (f_count, f_trees, f_grown, f_depth, a_kind, a_label, a_fixed, a_first, a_second, a_overFoot, a_roots, a_stack, a_words, a_pairs) (nI v) (nI k) (nI w) := by
  have g24 := hG.1
  have yn := hY.2.1 v hv
  have w5 := tg_wl5 w
  have cl : (nI v).toNatClampNeg = v := nI_clamp (by omega)
  have i24 : vp_in (nI v) 24 := vp_in_nI (by omega) (by decide)
  have c2 := tg_c2 hG hv (show 5 ≤ G v 0 by omega)
  have c3 := tg_c3 hG hv k6
  have gn2 := hG.2.2.1 _ c2
  have yn2 := hY.2.1 _ c2
  have cl2 : (nI (G v 2)).toNatClampNeg = G v 2 := nI_clamp (by omega)
  have cl3 : (nI (G v 3)).toNatClampNeg = G v 3 := nI_clamp (by omega)
  have in2 : vp_in (nI (G v 2)) 24 := vp_in_nI (by omega) (by decide)
  have in3 : vp_in (nI (G v 3)) 24 := vp_in_nI (by omega) (by decide)
  have e6 : 6 * nI (G v 2) + nI k = nI (6 * G v 2 + k) := by
    rw [show (6 : Int32) = nI 6 from rfl, pk_mul, nI_add]
  unfold wpY_forked
  dsimp only
  rw [cl, yn.2.2.2.1 (by omega), yn.2.2.2.2.1 k6]
  refine tg_y_lenOf hw ⟨i24, nm_e ⟨i24, nm_e (tg_srchE (fun n c => wY_forked_26 post (nI k) (nI w) (nI (tg_wl w)) (nI (G v 2)) (nI (G v 3)) f_count f_trees f_grown f_depth a_kind a_label a_fixed a_first a_second a_overFoot a_roots a_stack a_words a_pairs n (nI c)) (fun c => (G (G v 2) 5 = 1 ∧ k ≤ c ∧ tg_yp a_pairs (G v 2) k (tg_pt w 0 c) ∧ tg_yw a_words (G v 3) (tg_pt w c (tg_wl w))) ∨ (G (G v 2) 5 = 0 ∧ c ≤ k ∧ tg_yw a_words (G v 2) (tg_pt w 0 c) ∧ tg_yp a_pairs (G v 3) (k - c) (tg_pt w c (tg_wl w)))) (tg_wl w + 1) 0 (post 1) (post 0) (by omega) ?_ ?_ ?_ ?_)⟩⟩
  · exact fun n h => br_t (nI_lt (by omega) (by omega)) h
  · intro n c _ hc p1 p0
    have b1 := (tg_F1 w hw c hc 0 (by omega)).1
    have b2 := (tg_F1 w hw (tg_wl w) (by omega) c (by omega)).1
    have rest : (¬ (G (G v 2) 5 = 1 ∧ k ≤ c ∧ tg_yp a_pairs (G v 2) k (tg_pt w 0 c) ∧ tg_yw a_words (G v 3) (tg_pt w c (tg_wl w)))) → wY_forked_109 post (wY_forked_26 post (nI k) (nI w) (nI (tg_wl w)) (nI (G v 2)) (nI (G v 3)) f_count f_trees f_grown f_depth a_kind a_label a_fixed a_first a_second a_overFoot a_roots a_stack a_words a_pairs n) (nI k) (nI w) (nI (tg_wl w)) (nI (G v 2)) (nI (G v 3)) (nI c) (nI (tg_pt w 0 c)) (nI (tg_pt w c (tg_wl w))) f_count f_trees f_grown f_depth a_kind a_label a_fixed a_first a_second a_overFoot a_roots a_stack a_words a_pairs := by
      intro ne
      exact tg_y_f109 hG hY c2 c3 hk (by omega) b1 b2 (fun z => p1 (Or.inr z)) (fun z => p0 (fun y => y.elim ne z))
    refine br_f (nI_nlt (by omega) (by omega)) (tg_y_part (i := 0) hw hc (by omega) (tg_y_part hw (by omega) (by omega) ⟨in2, ?_⟩))
    rw [cl2, cl3, yn2.2.2.2.2.2, e6, nI_clamp (show 6 * G v 2 + k < 2 ^ 31 by omega)]
    refine tg_br (G (G v 2) 5 = 0) (nI_eq (b := 0) (by have := gn2.2.2.2.2.2.2.1; omega) (by decide)) (fun z => rest (fun y => by omega)) (fun z => pk_lt c k (fun q => rest (fun y => by omega)) (fun q => ⟨vp_in_nI (by omega) (by decide), tg_y_holds (by omega) (fun q2 => br_f (by decide) ⟨in3, tg_y_holds (by omega) (fun q3 => ?_) (fun q3 => ?_)⟩) (fun q2 => ?_)⟩))
    · exact br_f (by decide) (p1 (Or.inl ⟨by have := gn2.2.2.2.2.2.2.1; omega, q, q2, q3⟩))
    · exact br_t rfl (rest (fun y => q3 y.2.2.2))
    · exact br_t rfl (rest (fun y => q2 y.2.2.1))
  · exact fun ⟨c, _, hc, z⟩ => h1 ⟨c, hc, z⟩
  · exact fun z => h0 (fun ⟨c, hc, q⟩ => z ⟨c, by omega, hc, q⟩)
theorem tg_y_insidePair (hG : tg_Gr g T G R) (hY : tg_YG g T G R f_trees a_kind a_label a_fixed a_first a_second a_overFoot a_roots)
    {post : Int32 → Prop} {v k w : Nat} (hv : v < g) (hf : G v 5 = 1) (hk : k < 6) (hw : w < 63)
    (h1 : tg_IP (tg_yw a_words) (tg_yp a_pairs) G v k w → post 1) (h0 : ¬ tg_IP (tg_yw a_words) (tg_yp a_pairs) G v k w → post 0) :
    wpY_insidePair post (f_count, f_trees, f_grown, f_depth, a_kind, a_label, a_fixed, a_first, a_second, a_overFoot, a_roots, a_stack, a_words, a_pairs) (nI v) (nI k) (nI w) := by
  have g24 := hG.1
  have gn := hG.2.2.1 v hv
  have yn := hY.2.1 v hv
  have cl : (nI v).toNatClampNeg = v := nI_clamp (by omega)
  have i24 : vp_in (nI v) 24 := vp_in_nI (by omega) (by decide)
  have k4 := gn.2.2.2.2.2.2.2.1 hf
  have k6 := gn.1
  unfold wpY_insidePair
  dsimp only
  rw [cl, yn.1]
  refine ⟨i24, tg_br (G v 0 = 4) (nI_eq (b := 4) (by omega) (by decide)) (fun z => tg_br (w = 0) (nI_eq (b := 0) (by omega) (by decide)) (fun q => h1 (Or.inl ⟨z, q⟩)) (fun q => h0 ?_)) (fun z => ⟨i24, tg_br (G v 0 = 5) (nI_eq (b := 5) (by omega) (by decide)) (fun y => ⟨i24, ?_⟩) (fun y => ?_)⟩)⟩
  · rintro (⟨_, z2⟩ | ⟨z2, _⟩ | ⟨z2, _⟩)
    · exact q z2
    · omega
    · omega
  · have c2 := tg_c2 hG hv (show 5 ≤ G v 0 by omega)
    have e6 : 6 * nI (G v 2) + nI k = nI (6 * G v 2 + k) := by
      rw [show (6 : Int32) = nI 6 from rfl, pk_mul, nI_add]
    rw [yn.2.2.2.1 (by omega), e6, nI_clamp (show 6 * G v 2 + k < 2 ^ 31 by omega)]
    refine ⟨vp_in_nI (by omega) (by decide), tg_y_holds (by omega) (fun q => ⟨rfl, h1 (Or.inr (Or.inl ⟨y, q⟩))⟩) (fun q => ⟨rfl, h0 ?_⟩)⟩
    rintro (⟨z2, _⟩ | ⟨_, z2⟩ | ⟨z2, _⟩)
    · omega
    · exact q z2
    · omega
  · refine tg_y_forked hG hY hv (by omega) hk hw (fun q => ⟨rfl, h1 (Or.inr (Or.inr ⟨by omega, q⟩))⟩) (fun q => ⟨rfl, h0 ?_⟩)
    rintro (⟨z2, _⟩ | ⟨z2, _⟩ | ⟨_, z2⟩)
    · omega
    · omega
    · exact q z2
theorem tg_y_wrappedPair (hG : tg_Gr g T G R) (hY : tg_YG g T G R f_trees a_kind a_label a_fixed a_first a_second a_overFoot a_roots)
    {post : Int32 → Prop} {v k w : Nat} (hv : v < g) (k5 : 5 ≤ G v 0) (hf : G v 5 = 1) (hk : k < 6) (hw : w < 63) (hkw : k ≤ tg_wl w)
    (h1 : tg_WP (tg_yw a_words) (tg_yp a_pairs) T G R v k w → post 1) (h0 : ¬ tg_WP (tg_yw a_words) (tg_yp a_pairs) T G R v k w → post 0) :
    wpY_wrappedPair post (f_count, f_trees, f_grown, f_depth, a_kind, a_label, a_fixed, a_first, a_second, a_overFoot, a_roots, a_stack, a_words, a_pairs) (nI v) (nI k) (nI w) := by
  have g24 := hG.1
  have gn := hG.2.2.1 v hv
  have yn := hY.2.1 v hv
  have w5 := tg_wl5 w
  have cl : (nI v).toNatClampNeg = v := nI_clamp (by omega)
  have i24 : vp_in (nI v) 24 := vp_in_nI (by omega) (by decide)
  unfold wpY_wrappedPair
  dsimp only
  refine tg_y_lenOf hw (tg_srchE (fun n i => wY_wrappedPair_10 post (nI v) (nI k) (nI w) (nI (tg_wl w)) f_count f_trees f_grown f_depth a_kind a_label a_fixed a_first a_second a_overFoot a_roots a_stack a_words a_pairs n (nI i)) (fun i => ∃ j, k ≤ j ∧ j < tg_wl w + 1 ∧ tg_SW (tg_yp a_pairs) T G R (G v 1) i (tg_wo w i j) ∧ tg_IP (tg_yw a_words) (tg_yp a_pairs) G v (k - i) (tg_pt w i j)) (k + 1) 0 (post 1) (post 0) (by omega) ?_ ?_ ?_ ?_)
  · exact fun n h => br_t (nI_lt (by omega) (by omega)) h
  · intro n i _ hi p1 p0
    refine br_f (nI_nlt (by omega) (by omega)) (tg_srchE (fun n' j => wY_wrappedPair_19 post (wY_wrappedPair_10 post (nI v) (nI k) (nI w) (nI (tg_wl w)) f_count f_trees f_grown f_depth a_kind a_label a_fixed a_first a_second a_overFoot a_roots a_stack a_words a_pairs n) (nI v) (nI k) (nI w) (nI (tg_wl w)) (nI i) f_count f_trees f_grown f_depth a_kind a_label a_fixed a_first a_second a_overFoot a_roots a_stack a_words a_pairs n' (nI j)) (fun j => tg_SW (tg_yp a_pairs) T G R (G v 1) i (tg_wo w i j) ∧ tg_IP (tg_yw a_words) (tg_yp a_pairs) G v (k - i) (tg_pt w i j)) (tg_wl w + 1) k (post 1) (wY_wrappedPair_10 post (nI v) (nI k) (nI w) (nI (tg_wl w)) f_count f_trees f_grown f_depth a_kind a_label a_fixed a_first a_second a_overFoot a_roots a_stack a_words a_pairs n (nI (i + 1))) (by omega) ?_ ?_ ?_ ?_)
    · exact fun n' h => br_t (nI_lt (by omega) (by omega)) (nm_r (nI_1 i) h)
    · intro n' j hkj hj q1 q0
      have b1 := (tg_F1 w hw j hj i (by omega)).1
      have b2 := (tg_Fw w hw j hj i (by omega)).1
      refine br_f (nI_nlt (by omega) (by omega)) (tg_y_part hw hj (by omega) (tg_y_without hw hj (by omega) ⟨i24, ?_⟩))
      rw [cl, yn.2.1 (Or.inr k5), pk_sub (show i ≤ k by omega)]
      refine tg_y_someWrapper hG hY (gn.2.1 (Or.inr k5)) (by omega) b2 (fun y => br_f (by decide) (tg_y_insidePair hG hY hv hf (by omega) b1 (fun q => ?_) (fun q => ?_))) (fun y => ?_)
      · exact br_f (by decide) (q1 ⟨y, q⟩)
      · exact br_t rfl (nm_r (nI_1 j) (q0 (fun z => q z.2)))
      · exact br_t rfl (nm_r (nI_1 j) (q0 (fun z => y z.1)))
    · exact fun ⟨j, a1, a2, a3⟩ => p1 ⟨j, a1, a2, a3⟩
    · exact fun z => p0 (fun ⟨j, a1, a2, a3⟩ => z ⟨j, a1, a2, a3⟩)
  · exact fun ⟨i, _, hi, z⟩ => h1 ⟨i, hi, z⟩
  · exact fun z => h0 (fun ⟨i, hi, q⟩ => z ⟨i, by omega, hi, q⟩)
theorem tg_pwE : ∀ k, k < 6 → ((1 : Int32) <<< (nI k &&& 31)) - 1 = nI (2 ^ k - 1) := by decide +kernel
theorem tg_pw31 : ∀ k, k < 6 → 2 ^ k - 1 ≤ 31 := by decide
theorem tg_y_pairsOf (hG : tg_Gr g T G R) (hY : tg_YG g T G R f_trees a_kind a_label a_fixed a_first a_second a_overFoot a_roots)
    {post : Int64 → Prop} {v k : Nat} (hv : v < g) (hf : G v 5 = 1) (hk : k < 6)
    (h : ∀ r, (∀ w, tg_b r w = true ↔ (w < 63 ∧ k ≤ tg_wl w ∧ tg_P (tg_yw a_words) (tg_yp a_pairs) T G R v k w)) → post r) : wpY_pairsOf post (f_count, f_trees, f_grown, f_depth, a_kind, a_label, a_fixed, a_first, a_second, a_overFoot, a_roots, a_stack, a_words, a_pairs) (nI v) (nI k) := by
  have g24 := hG.1
  have gn := hG.2.2.1 v hv
  have yn := hY.2.1 v hv
  have cl : (nI v).toNatClampNeg = v := nI_clamp (by omega)
  have i24 : vp_in (nI v) 24 := vp_in_nI (by omega) (by decide)
  have p31 := tg_pw31 k hk
  refine nm_r (tg_pwE k hk) (pk_loop (fun n i r => wY_pairsOf_9 post (nI v) (nI k) f_count f_trees f_grown f_depth a_kind a_label a_fixed a_first a_second a_overFoot a_roots a_stack a_words a_pairs n r (nI i)) (fun i r => 2 ^ k - 1 ≤ i ∧ ∀ w, tg_b r w = true ↔ (w < i ∧ 2 ^ k - 1 ≤ w ∧ tg_P (tg_yw a_words) (tg_yp a_pairs) T G R v k w)) 63 (2 ^ k - 1) 0 (by omega) ?_ ?_ ?_)
  · exact ⟨Nat.le_refl _, fun w => ⟨fun z => absurd z tg_0n, fun z => by omega⟩⟩
  · intro n r ⟨_, I⟩
    refine br_t (nI_le (Nat.le_refl 63) (by decide)) (h r (fun w => ?_))
    rw [I w]
    constructor
    · exact fun ⟨z1, z2, z3⟩ => ⟨z1, (tg_kw k hk w z1).mpr z2, z3⟩
    · exact fun ⟨z1, z2, z3⟩ => ⟨z1, (tg_kw k hk w z1).mp z2, z3⟩
  · intro n i r hi ⟨hi0, I⟩ K
    have hkw := (tg_kw k hk i hi).mpr hi0
    have add : tg_P (tg_yw a_words) (tg_yp a_pairs) T G R v k i → wY_pairsOf_47 post (wY_pairsOf_9 post (nI v) (nI k) f_count f_trees f_grown f_depth a_kind a_label a_fixed a_first a_second a_overFoot a_roots a_stack a_words a_pairs n) (nI v) (nI k) r (nI i) f_count f_trees f_grown f_depth a_kind a_label a_fixed a_first a_second a_overFoot a_roots a_stack a_words a_pairs := by
      intro q
      refine nm_e (nm_r (nI_1 i) (K _ ⟨by omega, fun w => ?_⟩))
      rw [tg_ori, tg_one (by omega), I w]
      constructor
      · rintro (⟨z1, z2⟩ | rfl)
        · exact ⟨by omega, z2⟩
        · exact ⟨by omega, hi0, q⟩
      · intro ⟨z1, z2⟩
        by_cases e : w = i
        · exact Or.inr e
        · exact Or.inl ⟨by omega, z2⟩
    have stay : ¬ tg_P (tg_yw a_words) (tg_yp a_pairs) T G R v k i → wY_pairsOf_9 post (nI v) (nI k) f_count f_trees f_grown f_depth a_kind a_label a_fixed a_first a_second a_overFoot a_roots a_stack a_words a_pairs n r (nI (i + 1)) := by
      intro q
      refine K _ ⟨by omega, fun w => ?_⟩
      rw [I w]
      constructor
      · exact fun ⟨z1, z2⟩ => ⟨by omega, z2⟩
      · intro ⟨z1, z2, z3⟩
        by_cases e : w = i
        · subst e; exact absurd z3 q
        · exact ⟨by omega, z2, z3⟩
    refine br_f (nI_ge (b := 63) hi (by decide)) (tg_y_insidePair hG hY hv hf hk hi (fun q => br_f (by decide) (add (Or.inl q))) (fun q => br_t rfl ⟨i24, ?_⟩))
    rw [cl, yn.2.2.1]
    refine tg_br (G v 4 = 0) (nI_eq (b := 0) (by have := gn.2.2.2.2.1; omega) (by decide)) (fun z => ?_) (fun z => ?_)
    · have k5 : 5 ≤ G v 0 := by have := gn.2.2.2.2.2.1; omega
      refine tg_y_wrappedPair hG hY hv k5 hf hk hi hkw (fun y => ?_) (fun y => ?_)
      · exact br_f (by decide) (add (Or.inr ⟨z, y⟩))
      · exact br_t rfl (nm_r (nI_1 i) (stay (fun x => x.elim q (fun u => y u.2))))
    · exact nm_r (nI_1 i) (stay (fun x => x.elim q (fun u => z u.1)))
end
end
section
/-! the reference's walks: fill -/
section
variable {f_count f_trees f_grown f_depth : Int32} {a_kind a_label a_fixed a_first a_second a_overFoot a_roots a_stack : Nat → Int32} {a_words a_pairs : Nat → Int64}
variable {g T : Nat} {G : Nat → Nat → Nat} {R : Nat → Nat}
theorem tg_y_add67 (hG : tg_Gr g T G R) (hY : tg_YG g T G R f_trees a_kind a_label a_fixed a_first a_second a_overFoot a_roots)
    {post : Int32 → SY → Prop} {J : Int32 → Int32 → (Nat → Int32) → (Nat → Int32) → (Nat → Int32) → (Nat → Int32) → (Nat → Int32) → (Nat → Int32) → (Nat → Int32) → (Nat → Int32) → (Nat → Int64) → (Nat → Int64) → Prop}
    {v : Nat} (hv : v < g) {W0 Q0 : Nat → Int64} (hJ : ∀ m W Q, tg_YS g T G R W0 Q0 (v + 1) m W Q → J m (nI (v + 1)) a_kind a_label a_fixed a_first a_second a_overFoot a_roots a_stack W Q)
    {m : Int32} {W Q : Nat → Int64} (h0 : G v 5 = 0 → tg_YS g T G R W0 Q0 (v + 1) m W Q) (h1 : G v 5 = 1 → tg_YK g T G R W0 Q0 v 0 m W Q) :
    ∃ n, wY_addMore_67 post J (nI v) f_count f_trees f_grown f_depth n m 0 a_kind a_label a_fixed a_first a_second a_overFoot a_roots a_stack W Q := by
  have g24 := hG.1
  have gn := hG.2.2.1 v hv
  have yn := hY.2.1 v hv
  have cl : (nI v).toNatClampNeg = v := nI_clamp (by omega)
  have i24 : vp_in (nI v) 24 := vp_in_nI (by omega) (by decide)
  rcases tg_f01 hG hv with hf | hf
  · refine ⟨1, br_f (by decide) ⟨i24, br_t ?_ (nm_r (nI_1 v) (hJ _ _ _ (h0 hf)))⟩⟩
    rw [cl, yn.2.2.2.2.2, hf]
    rfl
  · have h1 := h1 hf
    refine pk_loop (σ := Int32 × (Nat → Int64) × (Nat → Int64)) (fun n k s => wY_addMore_67 post J (nI v) f_count f_trees f_grown f_depth n s.1 (nI k) a_kind a_label a_fixed a_first a_second a_overFoot a_roots a_stack s.2.1 s.2.2) (fun k s => tg_YK g T G R W0 Q0 v k s.1 s.2.1 s.2.2) 6 0 (m, W, Q) (by omega) h1 ?_ ?_
    · intro n ⟨m, W, Q⟩ I
      refine br_t (nI_le (Nat.le_refl 6) (by decide)) (nm_r (nI_1 v) (hJ _ _ _ ⟨I.1, ?_⟩))
      rcases I.2 with ⟨z1, z2, z3, z4, z5⟩ | z
      · refine Or.inl ⟨z1, z2, z3, fun v' hv' => ?_⟩
        by_cases e : v' = v
        · subst e
          exact ⟨fun q => by omega, fun _ k w hk hw hkw q => z5 k w hk hw hkw q⟩
        · exact z4 v' (by omega)
      · exact Or.inr z
    · intro n k ⟨m, W, Q⟩ hk I K
      dsimp only at I K ⊢
      have e6 : 6 * nI v + nI k = nI (6 * v + k) := by
        rw [show (6 : Int32) = nI 6 from rfl, pk_mul, nI_add]
      have i144 : vp_in (nI (6 * v + k)) 144 := vp_in_nI (by omega) (by decide)
      have c144 : (nI (6 * v + k)).toNatClampNeg = 6 * v + k := nI_clamp (by omega)
      refine br_f (nI_ge (b := 6) hk (by decide)) ⟨i24, ?_⟩
      rw [cl, yn.2.2.2.2.2, hf, e6, c144]
      refine br_f (by decide) ⟨i144, nm_e ?_⟩
      refine tg_y_pairsOf hG hY hv hf hk (fun r hr => ⟨i144, nm_e ?_⟩)
      obtain ⟨I1, up⟩ := tg_ystepP hG I.1 hv hk hf hr
      have grow : m = 1 → tg_YK g T G R W0 Q0 v (k + 1) 1 W (vp_updL Q (6 * v + k) r) := by
        intro e
        refine ⟨I1, Or.inr ⟨rfl, ?_⟩⟩
        rcases I.2 with z | z
        · rw [z.1] at e; exact absurd e (by decide)
        · exact Nat.lt_of_lt_of_le z.2 (tg_yleP up)
      have m01 : m = 0 ∨ m = 1 := by
        rcases I.2 with z | z
        · exact Or.inl z.1
        · exact Or.inr z.1
      refine br_c (fun z => ⟨i144, tg_br (r = Q (6 * v + k)) (by rw [pk_uLs]) (fun q => ?_) (fun q => ?_)⟩) (fun z => ?_)
      · refine nm_r (nI_1 k) (K (0, W, vp_updL Q (6 * v + k) r) ?_)
        rcases I.2 with ⟨z1, z2, z3, z4, z5⟩ | y
        · rw [tg_updS q]
          refine ⟨I.1, Or.inl ⟨rfl, z2, z3, z4, fun k' w hk' hw hkw p => ?_⟩⟩
          by_cases e : k' = k
          · subst e
            have := (hr w).mpr ⟨hw, hkw, p⟩
            rw [q] at this
            exact this
          · exact z5 k' w (by omega) hw hkw p
        · rw [y.1] at z; exact absurd z (by decide)
      · refine nm_r (nI_1 k) (K (1, W, vp_updL Q (6 * v + k) r) ⟨I1, Or.inr ⟨rfl, ?_⟩⟩)
        rcases I.2 with ⟨z1, z2, z3, z4, z5⟩ | y
        · rw [← z2, ← z3]
          exact tg_yltP (by omega) hk hf up (fun w h => ((hr w).mp h).1) q
        · rw [y.1] at z; exact absurd z (by decide)
      · exact nm_r (nI_1 k) (K (1, W, vp_updL Q (6 * v + k) r) (grow (m01.resolve_left z)))
theorem tg_y_add42 (hG : tg_Gr g T G R) (hY : tg_YG g T G R f_trees a_kind a_label a_fixed a_first a_second a_overFoot a_roots)
    {post : Int32 → SY → Prop} {J : Int32 → Int32 → (Nat → Int32) → (Nat → Int32) → (Nat → Int32) → (Nat → Int32) → (Nat → Int32) → (Nat → Int32) → (Nat → Int32) → (Nat → Int32) → (Nat → Int64) → (Nat → Int64) → Prop}
    {v : Nat} (hv : v < g) {W0 Q0 : Nat → Int64} (hJ : ∀ m W Q, tg_YS g T G R W0 Q0 (v + 1) m W Q → J m (nI (v + 1)) a_kind a_label a_fixed a_first a_second a_overFoot a_roots a_stack W Q)
    {m : Int32} {W Q : Nat → Int64} (I : tg_YS g T G R W0 Q0 v m W Q) {r : Int64} (h0 : G v 5 = 0 → ∀ w, tg_b r w = true ↔ (w < 63 ∧ tg_W (tg_yw W) (tg_yp Q) T G R v w)) (h1 : G v 5 = 1 → r = 0) :
    wY_addMore_42 post J m (nI v) (W v) r (nI v) f_count f_trees f_grown f_depth a_kind a_label a_fixed a_first a_second a_overFoot a_roots a_stack W Q := by
  have g24 := hG.1
  have cl : (nI v).toNatClampNeg = v := nI_clamp (by omega)
  have i24 : vp_in (nI v) 24 := vp_in_nI (by omega) (by decide)
  have m01 : m = 0 ∨ m = 1 := by
    rcases I.2 with z | z
    · exact Or.inl z.1
    · exact Or.inr z.1
  unfold wY_addMore_42
  rw [cl]
  refine ⟨i24, nm_e ?_⟩
  rw [pk_uLs]
  have same : G v 5 = 1 → r = W v := by
    intro hf
    rw [h1 hf]
    refine tg_exti (fun w => ⟨fun q => absurd q tg_0n, fun q => ?_⟩)
    have := (tg_LW_f (I.1.1 v w hv q)).1
    omega
  refine br_c (fun z => ⟨i24, br_c (fun q => ?_) (fun q => ?_)⟩) (fun z => ?_)
  · refine tg_y_add67 hG hY hv hJ (fun hf => ?_) (fun hf => ?_)
    · rw [tg_updS q]
      refine ⟨I.1, ?_⟩
      rcases I.2 with ⟨z1, z2, z3, z4⟩ | y
      · refine Or.inl ⟨rfl, z2, z3, fun v' hv' => ?_⟩
        by_cases e : v' = v
        · subst e
          refine ⟨fun _ w hw p => ?_, fun hf' => by omega⟩
          have := (h0 hf w).mpr ⟨hw, p⟩
          rw [q] at this
          exact this
        · exact z4 v' (by omega)
      · rw [y.1] at z; exact absurd z (by decide)
    · rw [tg_updS q]
      refine ⟨I.1, ?_⟩
      rcases I.2 with ⟨z1, z2, z3, z4⟩ | y
      · exact Or.inl ⟨rfl, z2, z3, z4, fun k' w hk' => by omega⟩
      · rw [y.1] at z; exact absurd z (by decide)
  · refine tg_y_add67 hG hY hv hJ (fun hf => ?_) (fun hf => absurd (same hf) q)
    obtain ⟨I1, up⟩ := tg_ystepW hG I.1 hv hf (h0 hf)
    refine ⟨I1, Or.inr ⟨rfl, ?_⟩⟩
    rcases I.2 with ⟨z1, z2, z3, z4⟩ | y
    · rw [← z2, ← z3]
      exact tg_yltW (by omega) hf up (fun w h => ((h0 hf w).mp h).1) q
    · rw [y.1] at z; exact absurd z (by decide)
  · have m1 := m01.resolve_left z
    have lt : tg_yn G W0 Q0 < tg_yn G W Q := by
      rcases I.2 with y | y
      · exact absurd y.1 z
      · exact y.2
    refine tg_y_add67 hG hY hv hJ (fun hf => ?_) (fun hf => ?_)
    · obtain ⟨I1, up⟩ := tg_ystepW hG I.1 hv hf (h0 hf)
      exact ⟨I1, Or.inr ⟨rfl, Nat.lt_of_lt_of_le lt (tg_yleW up)⟩⟩
    · rw [tg_updS (same hf)]
      exact ⟨I.1, Or.inr ⟨rfl, lt⟩⟩
theorem tg_y_addMore (hG : tg_Gr g T G R) (hY : tg_YG g T G R f_trees a_kind a_label a_fixed a_first a_second a_overFoot a_roots) (hg : f_grown = nI g)
    {post : Int32 → SY → Prop} (I0 : tg_YI g T G R a_words a_pairs) (h : ∀ m W Q, tg_YS g T G R a_words a_pairs g m W Q → post m (f_count, f_trees, f_grown, f_depth, a_kind, a_label, a_fixed, a_first, a_second, a_overFoot, a_roots, a_stack, W, Q)) : wpY_addMore post (f_count, f_trees, f_grown, f_depth, a_kind, a_label, a_fixed, a_first, a_second, a_overFoot, a_roots, a_stack, a_words, a_pairs) := by
  have g24 := hG.1
  subst hg
  refine pk_loop (σ := Int32 × (Nat → Int64) × (Nat → Int64)) (fun n v s => wY_addMore_4 post f_count f_trees (nI g) f_depth n s.1 (nI v) a_kind a_label a_fixed a_first a_second a_overFoot a_roots a_stack s.2.1 s.2.2) (fun v s => tg_YS g T G R a_words a_pairs v s.1 s.2.1 s.2.2) g 0 (0, a_words, a_pairs) (by omega) ?_ ?_ ?_
  · exact ⟨I0, Or.inl ⟨rfl, rfl, rfl, fun v' hv' => by omega⟩⟩
  · intro n ⟨m, W, Q⟩ I
    refine br_t (nI_le (Nat.le_refl g) (by omega)) ⟨?_, h m W Q I⟩
    dsimp only at I ⊢
    rcases I.2 with z | z
    · rw [z.1]; rfl
    · rw [z.1]; rfl
  · intro n v ⟨m, W, Q⟩ hv I K
    dsimp only at I K ⊢
    have gn := hG.2.2.1 v hv
    have yn := hY.2.1 v hv
    have cl : (nI v).toNatClampNeg = v := nI_clamp (by omega)
    have i24 : vp_in (nI v) 24 := vp_in_nI (by omega) (by decide)
    have hJ : ∀ m W Q, tg_YS g T G R a_words a_pairs (v + 1) m W Q → wY_addMore_4 post f_count f_trees (nI g) f_depth n m (nI (v + 1)) a_kind a_label a_fixed a_first a_second a_overFoot a_roots a_stack W Q := fun m W Q q => K (m, W, Q) q
    refine br_f (nI_ge hv (by omega)) ⟨i24, ?_⟩
    rw [cl, yn.2.2.2.2.2]
    refine nm_e ⟨i24, tg_br (G v 5 = 0) (nI_eq (b := 0) (by have := gn.2.2.2.2.2.2.1; omega) (by decide)) (fun hf => ?_) (fun hf => ?_)⟩
    · exact tg_y_wordsOf hG hY hv hf (fun v w hv z => (tg_LW_f (I.1.1 v w hv z)).2) (fun r hr => tg_y_add42 hG hY hv hJ I (fun _ => hr) (fun q => by omega))
    · exact tg_y_add42 hG hY hv hJ I (fun q => absurd q hf) (fun _ => rfl)
theorem tg_y_fill47 (hG : tg_Gr g T G R) (hY : tg_YG g T G R f_trees a_kind a_label a_fixed a_first a_second a_overFoot a_roots) (hg : f_grown = nI g)
    {post : SY → Prop} (I0 : tg_YI g T G R a_words a_pairs) (h : ∀ W Q, tg_YR g T G R W Q → post (f_count, f_trees, f_grown, f_depth, a_kind, a_label, a_fixed, a_first, a_second, a_overFoot, a_roots, a_stack, W, Q)) : ∃ n, wY_fill_47 post n 1 0 f_count f_trees f_grown f_depth a_kind a_label a_fixed a_first a_second a_overFoot a_roots a_stack a_words a_pairs := by
  refine loop_m (σ := Int32 × Nat × (Nat → Int64) × (Nat → Int64)) (fun n s => wY_fill_47 post n s.1 (nI s.2.1) f_count f_trees f_grown f_depth a_kind a_label a_fixed a_first a_second a_overFoot a_roots a_stack s.2.2.1 s.2.2.2)
    (fun s => tg_YI g T G R s.2.2.1 s.2.2.2 ∧ s.2.1 ≤ 20000 ∧ ((s.1 = 0 ∧ tg_Cl g T G R (tg_yw s.2.2.1) (tg_yp s.2.2.2)) ∨ (s.1 = 1 ∧ s.2.1 ≤ tg_yn G s.2.2.1 s.2.2.2))) (fun s => 20001 - s.2.1) ?_ (1, 0, a_words, a_pairs) ⟨I0, Nat.zero_le _, Or.inr ⟨rfl, Nat.zero_le _⟩⟩
  intro n ⟨m, r, W, Q⟩ ⟨I, hr, hm⟩ K
  dsimp only at I hr hm K ⊢
  have le := tg_yn_le G W Q
  refine pk_le 20000 r (fun q => ?_) (fun q => br_c (fun z => ?_) (fun z => ?_))
  · rcases hm with ⟨_, c⟩ | ⟨_, c⟩
    · exact h W Q (tg_YR_of I c)
    · omega
  · rcases hm with ⟨_, c⟩ | ⟨c, _⟩
    · exact h W Q (tg_YR_of I c)
    · rw [c] at z; exact absurd z (by decide)
  · have m1 : r ≤ tg_yn G W Q := by
      rcases hm with ⟨c, _⟩ | ⟨_, c⟩
      · exact absurd c z
      · exact c
    refine tg_y_addMore hG hY hg I (fun m' W' Q' S => nm_r (nI_1 r) (K (m', r + 1, W', Q') ⟨S.1, by dsimp only; omega, ?_⟩ (by dsimp only; omega)))
    dsimp only
    rcases S.2 with ⟨z1, z2, z3, z4⟩ | ⟨z1, z2⟩
    · exact Or.inl ⟨z1, z4⟩
    · exact Or.inr ⟨z1, by omega⟩
theorem tg_y_fill (hG : tg_Gr g T G R) (hY : tg_YG g T G R f_trees a_kind a_label a_fixed a_first a_second a_overFoot a_roots) (hg : f_grown = nI g)
    {post : SY → Prop} (h : ∀ W Q, tg_YR g T G R W Q → post (f_count, f_trees, f_grown, f_depth, a_kind, a_label, a_fixed, a_first, a_second, a_overFoot, a_roots, a_stack, W, Q)) : wpY_fill post (f_count, f_trees, f_grown, f_depth, a_kind, a_label, a_fixed, a_first, a_second, a_overFoot, a_roots, a_stack, a_words, a_pairs) := by
  have g24 := hG.1
  refine pk_loop (fun n i s => wY_fill_2 post f_count f_trees f_grown f_depth n (nI i) a_kind a_label a_fixed a_first a_second a_overFoot a_roots a_stack s a_pairs) (fun i s => ∀ j, j < i → s j = 0) 24 0 a_words (by omega) (fun j hj => by omega) ?_ ?_
  · intro n W hW
    refine br_t (nI_le (Nat.le_refl 24) (by decide)) (pk_loop (fun n i s => wY_fill_23 post f_count f_trees f_grown f_depth n (nI i) a_kind a_label a_fixed a_first a_second a_overFoot a_roots a_stack W s) (fun i s => ∀ j, j < i → s j = 0) 144 0 a_pairs (by omega) (fun j hj => by omega) ?_ ?_)
    · intro n Q hQ
      have zW : ∀ v w, v < g → ¬ tg_yw W v w := by
        intro v w hv q
        unfold tg_yw at q
        rw [hW v (by omega)] at q
        exact tg_0n q
      have zQ : ∀ v k w, v < g → k < 6 → ¬ tg_yp Q v k w := by
        intro v k w hv hk q
        unfold tg_yp at q
        rw [hQ _ (by omega)] at q
        exact tg_0n q
      exact br_t (nI_le (Nat.le_refl 144) (by decide)) (tg_y_fill47 hG hY hg ⟨fun v w hv q => absurd q (zW v w hv), fun v k w hv hk q => absurd q (zQ v k w hv hk), fun v w hv _ q => absurd q (zW v w hv), fun v k w hv hk _ q => absurd q (zQ v k w hv hk)⟩ h)
    · intro n i Q hi hQ K
      refine br_f (nI_ge (b := 144) hi (by decide)) ⟨vp_in_nI hi (by decide), nm_e (nm_r (nI_1 i) (K _ (fun j hj => ?_)))⟩
      rw [nI_clamp (by omega)]
      by_cases e : j = i
      · rw [e, pk_uLs]
      · rw [pk_uLn e]; exact hQ j (by omega)
  · intro n i W hi hW K
    refine br_f (nI_ge (b := 24) hi (by decide)) ⟨vp_in_nI hi (by decide), nm_e (nm_r (nI_1 i) (K _ (fun j hj => ?_)))⟩
    rw [nI_clamp (by omega)]
    by_cases e : j = i
    · rw [e, pk_uLs]
    · rw [pk_uLn e]; exact hW j (by omega)
end
end
section
/-! the component's walks: reading -/
def tg_XN (n : Nat → Nat) (k m fx fi se ft : Int32) : Prop :=
  k = nI (n 0 - 1) ∧ (n 0 < 2 → m = nI (n 0)) ∧ ((n 0 = 3 ∨ 5 ≤ n 0) → m = nI (n 1)) ∧ (5 ≤ n 0 → fx = nI (n 4) ∧ fi = nI (n 2)) ∧ (n 0 = 6 → se = nI (n 3)) ∧ ft = nI (n 5)
def tg_XM (g T : Nat) (G : Nat → Nat → Nat) (R : Nat → Nat) (f_trees : Int32) (a_kind a_mark a_fixed a_first a_second a_footed a_root : Nat → Int32) : Prop :=
  f_trees = nI T ∧ (∀ v, v < g → tg_XN (G v) (a_kind v) (a_mark v) (a_fixed v) (a_first v) (a_second v) (a_footed v)) ∧ ∀ t, t < T → a_root t = nI (R t)
/-- the word of the chart -/
def tg_XW (n o : Nat) (f_chartLength f_chartBits : Int32) : Prop := o < 63 ∧ tg_wl o = n ∧ f_chartLength = nI n ∧ f_chartBits = nI (o + 1 - 2 ^ n)
theorem tg_sl : ∀ n, n < 32 → ((nI n &&& 31).toBitVec.smod 32).toNat = n := by decide +kernel
theorem tg_b32 : ∀ o, o < 63 → o + 1 - 2 ^ tg_wl o < 32 := by decide +kernel
section
variable {f_count f_settled f_height f_trees f_charted f_chartLength f_chartBits f_grown : Int32} {a_kind a_mark a_fixed a_first a_second a_footed a_stack a_root : Nat → Int32} {a_words a_pairs a_baseWords a_wrapPairs : Nat → Int64}
variable {n o g T : Nat} {G : Nat → Nat → Nat} {R : Nat → Nat}
theorem tg_x_followed (h5 : n ≤ 5) (hC : f_chartLength = nI n) {post : Int64 → Prop} {l r : Int64} (h : ∀ s, (∀ b, tg_b s b = true ↔ tg_xFo n l r b) → post s) : wpX_followed post (f_count, f_settled, f_height, f_trees, f_charted, f_chartLength, f_chartBits, f_grown, a_kind, a_mark, a_fixed, a_first, a_second, a_footed, a_stack, a_root, a_words, a_pairs, a_baseWords, a_wrapPairs) l r := by
  subst hC
  refine pk_loop (fun f i s => wX_followed_6 post l r f_count f_settled f_height f_trees f_charted (nI n) f_chartBits f_grown a_kind a_mark a_fixed a_first a_second a_footed a_stack a_root a_words a_pairs a_baseWords a_wrapPairs f s (nI i)) (fun i s => ∀ b, tg_b s b = true ↔ (b / 6 < i ∧ tg_xFo n l r b)) (n + 1) 0 0 (by omega) ?_ ?_ ?_
  · exact fun b => ⟨fun q => absurd q tg_0n, fun q => by omega⟩
  · intro f s I
    refine br_t (nI_lt (by omega) (by omega)) (h s (fun b => ?_))
    rw [I b]
    exact ⟨fun q => q.2, fun q => ⟨by obtain ⟨m, q1, q2, _⟩ := q; omega, q⟩⟩
  · intro f i s hi I K
    have e6 : ∀ x, nI x * 6 = nI (x * 6) := fun x => by rw [show (6 : Int32) = nI 6 from rfl, pk_mul]
    refine br_f (nI_nlt (by omega) (by omega)) (pk_loop (fun f' m row => wX_followed_22 post (wX_followed_6 post l r f_count f_settled f_height f_trees f_charted (nI n) f_chartBits f_grown a_kind a_mark a_fixed a_first a_second a_footed a_stack a_root a_words a_pairs a_baseWords a_wrapPairs f) l r s (nI i) f_count f_settled f_height f_trees f_charted (nI n) f_chartBits f_grown a_kind a_mark a_fixed a_first a_second a_footed a_stack a_root a_words a_pairs a_baseWords a_wrapPairs f' row (nI m)) (fun m row => i ≤ m ∧ ∀ j, tg_b row j = true ↔ (j < 6 ∧ ∃ m', i ≤ m' ∧ m' < m ∧ tg_b l (i * 6 + m') = true ∧ tg_b r (m' * 6 + j) = true)) (n + 1) i 0 (by omega) ?_ ?_ ?_)
    · exact ⟨Nat.le_refl i, fun j => ⟨fun q => absurd q tg_0n, fun ⟨_, m, q1, q2, _⟩ => by omega⟩⟩
    · intro f' row ⟨_, J⟩
      refine br_t (nI_lt (by omega) (by omega)) (nm_e (nm_r (nI_1 i) (K _ (fun b => ?_))))
      rw [e6, tg_ori, tg_shl row (by omega)]
      simp only [Bool.and_eq_true, decide_eq_true_eq]
      rw [I b, J (b - i * 6)]
      constructor
      · rintro (⟨q1, q2⟩ | ⟨q1, q2, q3, m, q4, q5, q6, q7⟩)
        · exact ⟨by omega, q2⟩
        · have e1 : b / 6 = i := by omega
          have e2 : b - i * 6 = b % 6 := by omega
          refine ⟨by omega, m, by omega, by omega, ?_, ?_⟩
          · rw [e1]; exact q6
          · rw [← e2]; exact q7
      · intro ⟨q1, q2⟩
        by_cases e : b / 6 = i
        · obtain ⟨m, q3, q4, q5, q6⟩ := q2
          have e2 : b - i * 6 = b % 6 := by omega
          rw [e] at q5
          rw [← e2] at q6
          exact Or.inr ⟨by omega, by omega, by omega, m, by omega, by omega, q5, q6⟩
        · exact Or.inl ⟨by omega, q2⟩
    · intro f' m row hm ⟨him, J⟩ K'
      refine br_f (nI_nlt (by omega) (by omega)) ?_
      rw [e6, e6, nI_add]
      refine tg_br (tg_b l (i * 6 + m) = true) (tg_ubit l (by omega)) (fun q => nm_e (nm_r (nI_1 m) (K' _ ⟨by omega, fun j => ?_⟩))) (fun q => nm_r (nI_1 m) (K' _ ⟨by omega, fun j => ?_⟩))
      · rw [tg_ori, tg_and63, tg_ush r (by omega), J j]
        constructor
        · rintro (⟨q1, m', q2, q3, q4⟩ | ⟨q1, q2⟩)
          · exact ⟨q1, m', q2, by omega, q4⟩
          · exact ⟨q1, m, him, by omega, q, q2⟩
        · intro ⟨q1, m', q2, q3, q4, q5⟩
          by_cases e : m' = m
          · subst e; exact Or.inr ⟨q1, q5⟩
          · exact Or.inl ⟨q1, m', q2, by omega, q4, q5⟩
      · rw [J j]
        constructor
        · exact fun ⟨q1, m', q2, q3, q4⟩ => ⟨q1, m', q2, by omega, q4⟩
        · intro ⟨q1, m', q2, q3, q4, q5⟩
          by_cases e : m' = m
          · subst e; exact absurd q4 q
          · exact ⟨q1, m', q2, by omega, q4, q5⟩
theorem tg_x_wrapped {post : Int64 → Prop} {a : Nat} (ha : a < 3) {set : Int64} (h : ∀ s, (∀ b, tg_b s b = true ↔ tg_xWr a_wrapPairs a (fun z => tg_b set z = true) b) → post s) : wpX_wrapped post (f_count, f_settled, f_height, f_trees, f_charted, f_chartLength, f_chartBits, f_grown, a_kind, a_mark, a_fixed, a_first, a_second, a_footed, a_stack, a_root, a_words, a_pairs, a_baseWords, a_wrapPairs) (nI a) set := by
  refine pk_loop (fun f i s => wX_wrapped_6 post (nI a) set f_count f_settled f_height f_trees f_charted f_chartLength f_chartBits f_grown a_kind a_mark a_fixed a_first a_second a_footed a_stack a_root a_words a_pairs a_baseWords a_wrapPairs f s (nI i)) (fun i s => ∀ b, tg_b s b = true ↔ ∃ s', s' < i ∧ tg_b set s' = true ∧ tg_b (a_wrapPairs (a * 36 + s')) b = true) 36 0 0 (by omega) ?_ ?_ ?_
  · exact fun b => ⟨fun q => absurd q tg_0n, fun ⟨s', q, _⟩ => by omega⟩
  · exact fun f s I => br_t (nI_le (Nat.le_refl 36) (by decide)) (h s I)
  · intro f i s hi I K
    refine br_f (nI_ge (b := 36) hi (by decide)) ?_
    rw [show (36 : Int32) = nI 36 from rfl, pk_mul, nI_add, nI_clamp (by omega)]
    refine tg_br (tg_b set i = true) (tg_ubit set (by omega)) (fun q => ⟨vp_in_nI (by omega) (by decide), nm_e (nm_r (nI_1 i) (K _ (fun b => ?_)))⟩) (fun q => nm_r (nI_1 i) (K _ (fun b => ?_)))
    · rw [tg_ori, I b]
      constructor
      · rintro (⟨s', q1, q2⟩ | q1)
        · exact ⟨s', by omega, q2⟩
        · exact ⟨i, by omega, q, q1⟩
      · intro ⟨s', q1, q2, q3⟩
        by_cases e : s' = i
        · subst e; exact Or.inr q3
        · exact Or.inl ⟨s', by omega, q2, q3⟩
    · rw [I b]
      constructor
      · exact fun ⟨s', q1, q2⟩ => ⟨s', by omega, q2⟩
      · intro ⟨s', q1, q2, q3⟩
        by_cases e : s' = i
        · subst e; exact absurd q2 q
        · exact ⟨s', by omega, q2, q3⟩
theorem tg_x_letter (hW : tg_XW n o f_chartLength f_chartBits) {post : Int64 → Prop} {c : Nat} (hc : c < 2) (h : ∀ s, (∀ b, tg_b s b = true ↔ ∃ i, i < n ∧ (o + 1 - 2 ^ n) / 2 ^ (n - (i + 1)) % 2 = c ∧ b = 7 * i + 1) → post s) : wpX_letterStretches post (f_count, f_settled, f_height, f_trees, f_charted, f_chartLength, f_chartBits, f_grown, a_kind, a_mark, a_fixed, a_first, a_second, a_footed, a_stack, a_root, a_words, a_pairs, a_baseWords, a_wrapPairs) (nI c) := by
  obtain ⟨ho, hn, rfl, rfl⟩ := hW
  have h5 : n ≤ 5 := hn ▸ tg_wl5 o
  have b32 : o + 1 - 2 ^ n < 32 := by have := tg_b32 o ho; rw [hn] at this; exact this
  refine pk_loop (fun f i s => wX_letterStretches_5 post (nI c) f_count f_settled f_height f_trees f_charted (nI n) (nI (o + 1 - 2 ^ n)) f_grown a_kind a_mark a_fixed a_first a_second a_footed a_stack a_root a_words a_pairs a_baseWords a_wrapPairs f s (nI i)) (fun i s => ∀ b, tg_b s b = true ↔ ∃ i', i' < i ∧ (o + 1 - 2 ^ n) / 2 ^ (n - (i' + 1)) % 2 = c ∧ b = 7 * i' + 1) n 0 0 (by omega) ?_ ?_ ?_
  · exact fun b => ⟨fun q => absurd q tg_0n, fun ⟨s', q, _⟩ => by omega⟩
  · exact fun f s I => br_t (nI_le (Nat.le_refl n) (by omega)) (h s I)
  · intro f i s hi I K
    have e1 : (nI n - 1) - nI i = nI (n - (i + 1)) := by
      rw [show (1 : Int32) = nI 1 from rfl, pk_sub (by omega), pk_sub (by omega)]
      exact congrArg nI (by omega)
    have e2 : nI i * 6 + nI i + 1 = nI (7 * i + 1) := by
      rw [show (6 : Int32) = nI 6 from rfl, pk_mul, nI_add, nI_1]
      exact congrArg nI (by omega)
    have e3 : (nI (o + 1 - 2 ^ n) >>> (nI (n - (i + 1)) &&& 31)) &&& 1 = nI ((o + 1 - 2 ^ n) / 2 ^ (n - (i + 1)) % 2) := by
      rw [pk_shrN (by omega) _ (n - (i + 1)) (tg_sl _ (by omega)), pk_andN (Nat.lt_of_le_of_lt (Nat.div_le_self _ _) (by omega)) 1 (by decide)]
    refine br_f (nI_ge hi (by omega)) ?_
    rw [e1, e2, e3]
    refine tg_br ((o + 1 - 2 ^ n) / 2 ^ (n - (i + 1)) % 2 = c) (nI_eq (by omega) (by omega)) (fun q => nm_e (nm_r (nI_1 i) (K _ (fun b => ?_)))) (fun q => nm_r (nI_1 i) (K _ (fun b => ?_)))
    · rw [tg_ori, tg_one (by omega), I b]
      constructor
      · rintro (⟨s', q1, q2⟩ | q1)
        · exact ⟨s', by omega, q2⟩
        · exact ⟨i, by omega, q, q1⟩
      · intro ⟨s', q1, q2, q3⟩
        by_cases e : s' = i
        · subst e; exact Or.inr q3
        · exact Or.inl ⟨s', by omega, q2, q3⟩
    · rw [I b]
      constructor
      · exact fun ⟨s', q1, q2⟩ => ⟨s', by omega, q2⟩
      · intro ⟨s', q1, q2, q3⟩
        by_cases e : s' = i
        · subst e; exact absurd q2 q
        · exact ⟨s', by omega, q2, q3⟩
theorem tg_x_empty (h5 : n ≤ 5) (hC : f_chartLength = nI n) {post : Int64 → Prop} (h : ∀ s, (∀ b, tg_b s b = true ↔ ∃ i, i < n + 1 ∧ b = 7 * i) → post s) : wpX_emptyStretches post (f_count, f_settled, f_height, f_trees, f_charted, f_chartLength, f_chartBits, f_grown, a_kind, a_mark, a_fixed, a_first, a_second, a_footed, a_stack, a_root, a_words, a_pairs, a_baseWords, a_wrapPairs) := by
  subst hC
  refine pk_loop (fun f i s => wX_emptyStretches_4 post f_count f_settled f_height f_trees f_charted (nI n) f_chartBits f_grown a_kind a_mark a_fixed a_first a_second a_footed a_stack a_root a_words a_pairs a_baseWords a_wrapPairs f s (nI i)) (fun i s => ∀ b, tg_b s b = true ↔ ∃ i', i' < i ∧ b = 7 * i') (n + 1) 0 0 (by omega) ?_ ?_ ?_
  · exact fun b => ⟨fun q => absurd q tg_0n, fun ⟨s', q, _⟩ => by omega⟩
  · exact fun f s I => br_t (nI_lt (by omega) (by omega)) (h s I)
  · intro f i s hi I K
    have e2 : nI i * 6 + nI i = nI (7 * i) := by
      rw [show (6 : Int32) = nI 6 from rfl, pk_mul, nI_add]
      exact congrArg nI (by omega)
    refine br_f (nI_nlt (by omega) (by omega)) ?_
    rw [e2]
    refine nm_e (nm_r (nI_1 i) (K _ (fun b => ?_)))
    rw [tg_ori, tg_one (by omega), I b]
    constructor
    · rintro (⟨s', q1, q2⟩ | q1)
      · exact ⟨s', by omega, q2⟩
      · exact ⟨i, by omega, q1⟩
    · intro ⟨s', q1, q3⟩
      by_cases e : s' = i
      · subst e; exact Or.inr q3
      · exact Or.inl ⟨s', by omega, q3⟩
theorem tg_x_insideWords (hG : tg_Gr g T G R) (hM : tg_XM g T G R f_trees a_kind a_mark a_fixed a_first a_second a_footed a_root) (hW : tg_XW n o f_chartLength f_chartBits)
    {post : Int64 → Prop} {v : Nat} (hv : v < g) (hf : G v 5 = 0) (h : ∀ s, (∀ b, tg_b s b = true ↔ tg_xI n o G a_words a_baseWords v b) → post s) : wpX_insideWords post (f_count, f_settled, f_height, f_trees, f_charted, f_chartLength, f_chartBits, f_grown, a_kind, a_mark, a_fixed, a_first, a_second, a_footed, a_stack, a_root, a_words, a_pairs, a_baseWords, a_wrapPairs) (nI v) := by
  have g24 := hG.1
  have gn := hG.2.2.1 v hv
  have xn := hM.2.1 v hv
  have cl : (nI v).toNatClampNeg = v := nI_clamp (by omega)
  have i24 : vp_in (nI v) 24 := vp_in_nI (by omega) (by decide)
  have k6 := gn.1
  have k4 : G v 0 ≠ 4 := fun q => by have := gn.2.2.2.2.2.2.2.2 q; omega
  have h5 : n ≤ 5 := hW.2.1 ▸ tg_wl5 o
  unfold wpX_insideWords
  dsimp only
  rw [cl, xn.1]
  refine ⟨i24, nm_e (tg_br (G v 0 < 2) ⟨fun q => ?_, fun q => ?_⟩ (fun z => ⟨i24, ?_⟩) (fun z => tg_br (G v 0 = 2) ⟨fun q => ?_, fun q => ?_⟩ (fun y => ?_) (fun y => tg_br (G v 0 = 3) ⟨fun q => ?_, fun q => ?_⟩ (fun x => ⟨i24, ?_⟩) (fun x => tg_br (G v 0 = 5) ⟨fun q => ?_, fun q => ?_⟩ (fun w => ⟨i24, ?_⟩) (fun w => ⟨i24, ?_⟩)))))⟩
  · have := (nI_eq (b := 0) (by omega) (by decide)).mp q; omega
  · exact (nI_eq (b := 0) (by omega) (by decide)).mpr (by omega)
  · rw [xn.2.1 z]
    refine tg_x_letter hW z (fun s hs => h s (fun b => ?_))
    rw [hs b]
    constructor
    · exact fun q => Or.inl ⟨z, q⟩
    · rintro (⟨_, q⟩ | ⟨q, _⟩ | ⟨q, _⟩ | ⟨q, _⟩ | ⟨q, _⟩)
      · exact q
      all_goals omega
  · have := (nI_eq (b := 1) (by omega) (by decide)).mp q; omega
  · exact (nI_eq (b := 1) (by omega) (by decide)).mpr (by omega)
  · refine tg_x_empty h5 hW.2.2.1 (fun s hs => h s (fun b => ?_))
    rw [hs b]
    constructor
    · exact fun q => Or.inr (Or.inl ⟨y, q⟩)
    · rintro (⟨q, _⟩ | ⟨_, q⟩ | ⟨q, _⟩ | ⟨q, _⟩ | ⟨q, _⟩)
      · omega
      · exact q
      all_goals omega
  · have := (nI_eq (b := 2) (by omega) (by decide)).mp q; omega
  · exact (nI_eq (b := 2) (by omega) (by decide)).mpr (by omega)
  · have l3 := gn.2.1 (Or.inl x)
    rw [xn.2.2.1 (Or.inl x), nI_clamp (by omega)]
    refine ⟨vp_in_nI l3 (by decide), h _ (fun b => ?_)⟩
    constructor
    · exact fun q => Or.inr (Or.inr (Or.inl ⟨x, q⟩))
    · rintro (⟨q, _⟩ | ⟨q, _⟩ | ⟨_, q⟩ | ⟨q, _⟩ | ⟨q, _⟩)
      · omega
      · omega
      · exact q
      all_goals omega
  · have := (nI_eq (b := 4) (by omega) (by decide)).mp q; omega
  · exact (nI_eq (b := 4) (by omega) (by decide)).mpr (by omega)
  · have c2 := tg_c2 hG hv (show 5 ≤ G v 0 by omega)
    rw [(xn.2.2.2.1 (by omega)).2, nI_clamp (by omega)]
    refine ⟨vp_in_nI (by omega) (by decide), h _ (fun b => ?_)⟩
    constructor
    · exact fun q => Or.inr (Or.inr (Or.inr (Or.inl ⟨w, q⟩)))
    · rintro (⟨q, _⟩ | ⟨q, _⟩ | ⟨q, _⟩ | ⟨_, q⟩ | ⟨q, _⟩)
      · omega
      · omega
      · omega
      · exact q
      · omega
  · have e6 : G v 0 = 6 := by omega
    have c2 := tg_c2 hG hv (show 5 ≤ G v 0 by omega)
    have c3 := tg_c3 hG hv e6
    rw [(xn.2.2.2.1 (by omega)).2, xn.2.2.2.2.1 e6, nI_clamp (show G v 2 < 2 ^ 31 by omega), nI_clamp (show G v 3 < 2 ^ 31 by omega)]
    refine ⟨vp_in_nI (by omega) (by decide), i24, vp_in_nI (by omega) (by decide), tg_x_followed h5 hW.2.2.1 (fun s hs => h s (fun b => ?_))⟩
    rw [hs b]
    constructor
    · exact fun q => Or.inr (Or.inr (Or.inr (Or.inr ⟨e6, q⟩)))
    · rintro (⟨q, _⟩ | ⟨q, _⟩ | ⟨q, _⟩ | ⟨q, _⟩ | ⟨_, q⟩)
      · omega
      · omega
      · omega
      · omega
      · exact q
theorem tg_x_insidePairs (hG : tg_Gr g T G R) (hM : tg_XM g T G R f_trees a_kind a_mark a_fixed a_first a_second a_footed a_root) (h5 : n ≤ 5) (hC : f_chartLength = nI n)
    {post : Int64 → Prop} {v s : Nat} (hv : v < g) (hf : G v 5 = 1) (hs : s < 36) (h : ∀ r, (∀ b, tg_b r b = true ↔ tg_xJ n G a_words a_pairs v s b) → post r) : wpX_insidePairs post (f_count, f_settled, f_height, f_trees, f_charted, f_chartLength, f_chartBits, f_grown, a_kind, a_mark, a_fixed, a_first, a_second, a_footed, a_stack, a_root, a_words, a_pairs, a_baseWords, a_wrapPairs) (nI v) (nI s) := by
  have g24 := hG.1
  have gn := hG.2.2.1 v hv
  have xn := hM.2.1 v hv
  have cl : (nI v).toNatClampNeg = v := nI_clamp (by omega)
  have i24 : vp_in (nI v) 24 := vp_in_nI (by omega) (by decide)
  have k6 := gn.1
  have k4 := gn.2.2.2.2.2.2.2.1 hf
  have e36 : ∀ x, nI x * 36 + nI s = nI (x * 36 + s) := fun x => by rw [show (36 : Int32) = nI 36 from rfl, pk_mul, nI_add]
  unfold wpX_insidePairs
  dsimp only
  rw [cl, xn.1]
  refine ⟨i24, nm_e (tg_br (G v 0 = 4) ⟨fun q => ?_, fun q => ?_⟩ (fun z => ?_) (fun z => tg_br (G v 0 = 5) ⟨fun q => ?_, fun q => ?_⟩ (fun y => ⟨i24, ?_⟩) (fun y => ⟨i24, ?_⟩)))⟩
  · have := (nI_eq (b := 3) (by omega) (by decide)).mp q; omega
  · exact (nI_eq (b := 3) (by omega) (by decide)).mpr (by omega)
  · refine h _ (fun b => ?_)
    rw [tg_one (by omega)]
    constructor
    · exact fun q => Or.inl ⟨z, q⟩
    · rintro (⟨_, q⟩ | ⟨q, _⟩ | ⟨q, _⟩)
      · exact q
      all_goals omega
  · have := (nI_eq (b := 4) (by omega) (by decide)).mp q; omega
  · exact (nI_eq (b := 4) (by omega) (by decide)).mpr (by omega)
  · have c2 := tg_c2 hG hv (show 5 ≤ G v 0 by omega)
    rw [(xn.2.2.2.1 (by omega)).2, e36, nI_clamp (by omega)]
    refine ⟨vp_in_nI (by omega) (by decide), h _ (fun b => ?_)⟩
    constructor
    · exact fun q => Or.inr (Or.inl ⟨y, q⟩)
    · rintro (⟨q, _⟩ | ⟨_, q⟩ | ⟨q, _⟩)
      · omega
      · exact q
      · omega
  · have e6 : G v 0 = 6 := by omega
    have c2 := tg_c2 hG hv (show 5 ≤ G v 0 by omega)
    have c3 := tg_c3 hG hv e6
    have gn2 := hG.2.2.1 _ c2
    have xn2 := hM.2.1 _ c2
    have in2 : vp_in (nI (G v 2)) 24 := vp_in_nI (by omega) (by decide)
    rw [(xn.2.2.2.1 (by omega)).2, xn.2.2.2.2.1 e6, nI_clamp (show G v 2 < 2 ^ 31 by omega), xn2.2.2.2.2.2, e36, e36, nI_clamp (show G v 2 * 36 + s < 2 ^ 31 by omega), nI_clamp (show G v 3 * 36 + s < 2 ^ 31 by omega), nI_clamp (show G v 3 < 2 ^ 31 by omega)]
    refine ⟨in2, tg_br (G (G v 2) 5 = 0) (nI_eq (b := 0) (by have := gn2.2.2.2.2.2.2.1; omega) (by decide)) (fun q => ⟨i24, in2, i24, vp_in_nI (by omega) (by decide), tg_x_followed h5 hC (fun r hr => h r (fun b => ?_))⟩) (fun q => ⟨i24, vp_in_nI (by omega) (by decide), i24, vp_in_nI (by omega) (by decide), tg_x_followed h5 hC (fun r hr => h r (fun b => ?_))⟩)⟩
    · rw [hr b]
      constructor
      · exact fun x => Or.inr (Or.inr ⟨e6, Or.inr ⟨q, x⟩⟩)
      · rintro (⟨x, _⟩ | ⟨x, _⟩ | ⟨_, ⟨x, _⟩ | ⟨_, x⟩⟩)
        · omega
        · omega
        · omega
        · exact x
    · rw [hr b]
      constructor
      · exact fun x => Or.inr (Or.inr ⟨e6, Or.inl ⟨by have := gn2.2.2.2.2.2.2.1; omega, x⟩⟩)
      · rintro (⟨x, _⟩ | ⟨x, _⟩ | ⟨_, ⟨_, x⟩ | ⟨x, _⟩⟩)
        · omega
        · omega
        · exact x
        · omega
end
end
section
/-! the component's walks: one node, gather -/
section
variable {f_count f_settled f_height f_trees f_charted f_chartLength f_chartBits f_grown : Int32} {a_kind a_mark a_fixed a_first a_second a_footed a_stack a_root : Nat → Int32} {a_words a_pairs a_baseWords a_wrapPairs : Nat → Int64}
variable {n o g T : Nat} {G : Nat → Nat → Nat} {R : Nat → Nat}
theorem tg_x_work44 {post : SX → Prop} {v : Nat} (hv : v < 24) {r : Int64} (h1 : r = a_words v → post (f_count, f_settled, f_height, f_trees, f_charted, f_chartLength, f_chartBits, f_grown, a_kind, a_mark, a_fixed, a_first, a_second, a_footed, a_stack, a_root, a_words, a_pairs, a_baseWords, a_wrapPairs)) (h2 : r ≠ a_words v → post (f_count, f_settled, f_height, f_trees, f_charted, f_chartLength, f_chartBits, 1, a_kind, a_mark, a_fixed, a_first, a_second, a_footed, a_stack, a_root, vp_updL a_words v r, a_pairs, a_baseWords, a_wrapPairs)) : wX_workWords_44 post (nI v) r f_count f_settled f_height f_trees f_charted f_chartLength f_chartBits f_grown a_kind a_mark a_fixed a_first a_second a_footed a_stack a_root a_words a_pairs a_baseWords a_wrapPairs := by
  have cl : (nI v).toNatClampNeg = v := nI_clamp (by omega)
  have i24 : vp_in (nI v) 24 := vp_in_nI (by omega) (by decide)
  unfold wX_workWords_44
  rw [cl]
  exact ⟨i24, br_c h1 (fun q => ⟨i24, nm_e (h2 q)⟩)⟩
theorem tg_x_workWords (hG : tg_Gr g T G R) (hM : tg_XM g T G R f_trees a_kind a_mark a_fixed a_first a_second a_footed a_root) (hW : tg_XW n o f_chartLength f_chartBits)
    {post : SX → Prop} {v : Nat} (hv : v < g) (hf : G v 5 = 0) (h : ∀ r, (∀ b, tg_b r b = true ↔ tg_xW n o G a_words a_baseWords a_wrapPairs v b) → (r = a_words v → post (f_count, f_settled, f_height, f_trees, f_charted, f_chartLength, f_chartBits, f_grown, a_kind, a_mark, a_fixed, a_first, a_second, a_footed, a_stack, a_root, a_words, a_pairs, a_baseWords, a_wrapPairs)) ∧ (r ≠ a_words v → post (f_count, f_settled, f_height, f_trees, f_charted, f_chartLength, f_chartBits, 1, a_kind, a_mark, a_fixed, a_first, a_second, a_footed, a_stack, a_root, vp_updL a_words v r, a_pairs, a_baseWords, a_wrapPairs))) : wpX_workWords post (f_count, f_settled, f_height, f_trees, f_charted, f_chartLength, f_chartBits, f_grown, a_kind, a_mark, a_fixed, a_first, a_second, a_footed, a_stack, a_root, a_words, a_pairs, a_baseWords, a_wrapPairs) (nI v) := by
  have g24 := hG.1
  have gn := hG.2.2.1 v hv
  have xn := hM.2.1 v hv
  have cl : (nI v).toNatClampNeg = v := nI_clamp (by omega)
  have i24 : vp_in (nI v) 24 := vp_in_nI (by omega) (by decide)
  have k6 := gn.1
  unfold wpX_workWords
  dsimp only
  rw [cl, xn.1]
  refine tg_x_insideWords hG hM hW hv hf (fun s hs => ⟨i24, ?_⟩)
  have plain : G v 4 ≠ 0 → wX_workWords_44 post (nI v) s f_count f_settled f_height f_trees f_charted f_chartLength f_chartBits f_grown a_kind a_mark a_fixed a_first a_second a_footed a_stack a_root a_words a_pairs a_baseWords a_wrapPairs := by
    intro q
    have := h s (fun b => by
      rw [hs b]
      exact ⟨Or.inl, fun z => z.elim id (fun y => absurd y.1 q)⟩)
    exact tg_x_work44 (by omega) this.1 this.2
  refine tg_br (G v 0 < 5) ⟨fun q => ?_, fun q => ?_⟩ (fun z => plain (by have := gn.2.2.2.2.2.1 z; omega)) (fun z => ⟨i24, ?_⟩)
  · have := (nI_ltI (b := 4) (by omega) (by decide)).mp q; omega
  · exact (nI_ltI (b := 4) (by omega) (by decide)).mpr (by omega)
  · rw [(xn.2.2.2.1 (by omega)).1, xn.2.2.1 (by omega)]
    refine tg_br (G v 4 = 0) (nI_eq (b := 0) (by have := gn.2.2.2.2.1; omega) (by decide)) (fun q => ⟨i24, tg_x_wrapped (gn.2.1 (by omega)) (fun s' hs' => nm_e ?_)⟩) plain
    have := h (s ||| s') (fun b => by
      rw [tg_ori, hs b, hs' b]
      constructor
      · rintro (y | ⟨t, y1, y2, y3⟩)
        · exact Or.inl y
        · exact Or.inr ⟨q, t, y1, (hs t).mp y2, y3⟩
      · rintro (y | ⟨_, t, y1, y2, y3⟩)
        · exact Or.inl y
        · exact Or.inr ⟨t, y1, (hs t).mpr y2, y3⟩)
    exact tg_x_work44 (by omega) this.1 this.2
theorem tg_x_work45 {post : SX → Prop} {v s : Nat} (hv : v < 24) (hs : s < 36) {r : Int64} (h1 : r = a_pairs (v * 36 + s) → post (f_count, f_settled, f_height, f_trees, f_charted, f_chartLength, f_chartBits, f_grown, a_kind, a_mark, a_fixed, a_first, a_second, a_footed, a_stack, a_root, a_words, a_pairs, a_baseWords, a_wrapPairs)) (h2 : r ≠ a_pairs (v * 36 + s) → post (f_count, f_settled, f_height, f_trees, f_charted, f_chartLength, f_chartBits, 1, a_kind, a_mark, a_fixed, a_first, a_second, a_footed, a_stack, a_root, a_words, vp_updL a_pairs (v * 36 + s) r, a_baseWords, a_wrapPairs)) : wX_workPairs_45 post (nI v) (nI s) r f_count f_settled f_height f_trees f_charted f_chartLength f_chartBits f_grown a_kind a_mark a_fixed a_first a_second a_footed a_stack a_root a_words a_pairs a_baseWords a_wrapPairs := by
  have e36 : nI v * 36 + nI s = nI (v * 36 + s) := by rw [show (36 : Int32) = nI 36 from rfl, pk_mul, nI_add]
  have i864 : vp_in (nI (v * 36 + s)) 864 := vp_in_nI (by omega) (by decide)
  unfold wX_workPairs_45
  rw [e36, nI_clamp (by omega)]
  exact ⟨i864, br_c h1 (fun q => ⟨i864, nm_e (h2 q)⟩)⟩
theorem tg_x_workPairs (hG : tg_Gr g T G R) (hM : tg_XM g T G R f_trees a_kind a_mark a_fixed a_first a_second a_footed a_root) (h5 : n ≤ 5) (hC : f_chartLength = nI n)
    {post : SX → Prop} {v s : Nat} (hv : v < g) (hf : G v 5 = 1) (hs36 : s < 36) (h : ∀ r, (∀ b, tg_b r b = true ↔ tg_xP n G a_words a_pairs a_wrapPairs v s b) → (r = a_pairs (v * 36 + s) → post (f_count, f_settled, f_height, f_trees, f_charted, f_chartLength, f_chartBits, f_grown, a_kind, a_mark, a_fixed, a_first, a_second, a_footed, a_stack, a_root, a_words, a_pairs, a_baseWords, a_wrapPairs)) ∧ (r ≠ a_pairs (v * 36 + s) → post (f_count, f_settled, f_height, f_trees, f_charted, f_chartLength, f_chartBits, 1, a_kind, a_mark, a_fixed, a_first, a_second, a_footed, a_stack, a_root, a_words, vp_updL a_pairs (v * 36 + s) r, a_baseWords, a_wrapPairs))) : wpX_workPairs post (f_count, f_settled, f_height, f_trees, f_charted, f_chartLength, f_chartBits, f_grown, a_kind, a_mark, a_fixed, a_first, a_second, a_footed, a_stack, a_root, a_words, a_pairs, a_baseWords, a_wrapPairs) (nI v) (nI s) := by
  have g24 := hG.1
  have gn := hG.2.2.1 v hv
  have xn := hM.2.1 v hv
  have cl : (nI v).toNatClampNeg = v := nI_clamp (by omega)
  have i24 : vp_in (nI v) 24 := vp_in_nI (by omega) (by decide)
  have k6 := gn.1
  unfold wpX_workPairs
  dsimp only
  rw [cl, xn.1]
  refine tg_x_insidePairs hG hM h5 hC hv hf hs36 (fun r hs => ⟨i24, ?_⟩)
  have plain : G v 4 ≠ 0 → wX_workPairs_45 post (nI v) (nI s) r f_count f_settled f_height f_trees f_charted f_chartLength f_chartBits f_grown a_kind a_mark a_fixed a_first a_second a_footed a_stack a_root a_words a_pairs a_baseWords a_wrapPairs := by
    intro q
    have := h r (fun b => by
      rw [hs b]
      exact ⟨Or.inl, fun z => z.elim id (fun y => absurd y.1 q)⟩)
    exact tg_x_work45 (by omega) hs36 this.1 this.2
  refine tg_br (G v 0 < 5) ⟨fun q => ?_, fun q => ?_⟩ (fun z => plain (by have := gn.2.2.2.2.2.1 z; omega)) (fun z => ⟨i24, ?_⟩)
  · have := (nI_ltI (b := 4) (by omega) (by decide)).mp q; omega
  · exact (nI_ltI (b := 4) (by omega) (by decide)).mpr (by omega)
  · rw [(xn.2.2.2.1 (by omega)).1, xn.2.2.1 (by omega)]
    refine tg_br (G v 4 = 0) (nI_eq (b := 0) (by have := gn.2.2.2.2.1; omega) (by decide)) (fun q => ⟨i24, tg_x_wrapped (gn.2.1 (by omega)) (fun s' hs' => nm_e ?_)⟩) plain
    have := h (r ||| s') (fun b => by
      rw [tg_ori, hs b, hs' b]
      constructor
      · rintro (y | ⟨t, y1, y2, y3⟩)
        · exact Or.inl y
        · exact Or.inr ⟨q, t, y1, (hs t).mp y2, y3⟩
      · rintro (y | ⟨_, t, y1, y2, y3⟩)
        · exact Or.inl y
        · exact Or.inr ⟨t, y1, (hs t).mpr y2, y3⟩)
    exact tg_x_work45 (by omega) hs36 this.1 this.2
theorem tg_Xs_le {B E W0 P0 W P : Nat → Int64} {v : Nat} {m : Int32} (S : tg_Xs n o g T G R B E W0 P0 v m W P) : tg_xn g G W0 P0 ≤ tg_xn g G W P := by
  rcases S.2 with z | z
  · rw [z.2.1, z.2.2.1]; exact Nat.le_refl _
  · exact Nat.le_of_lt z.2
theorem tg_Xk_le {B E W0 P0 W P : Nat → Int64} {v p q : Nat} {m : Int32} (S : tg_Xk n o g T G R B E W0 P0 v p q m W P) : tg_xn g G W0 P0 ≤ tg_xn g G W P := by
  rcases S.2 with z | z
  · rw [z.2.1, z.2.2.1]; exact Nat.le_refl _
  · exact Nat.le_of_lt z.2
theorem tg_x_workNode (hG : tg_Gr g T G R) (hM : tg_XM g T G R f_trees a_kind a_mark a_fixed a_first a_second a_footed a_root) (hW : tg_XW n o f_chartLength f_chartBits)
    {post : SX → Prop} {v : Nat} (hv : v < g) {W0 P0 : Nat → Int64} (S : tg_Xs n o g T G R a_baseWords a_wrapPairs W0 P0 v f_grown a_words a_pairs)
    (h : ∀ m W P, tg_Xs n o g T G R a_baseWords a_wrapPairs W0 P0 (v + 1) m W P → post (f_count, f_settled, f_height, f_trees, f_charted, f_chartLength, f_chartBits, m, a_kind, a_mark, a_fixed, a_first, a_second, a_footed, a_stack, a_root, W, P, a_baseWords, a_wrapPairs)) : wpX_workNode post (f_count, f_settled, f_height, f_trees, f_charted, f_chartLength, f_chartBits, f_grown, a_kind, a_mark, a_fixed, a_first, a_second, a_footed, a_stack, a_root, a_words, a_pairs, a_baseWords, a_wrapPairs) (nI v) := by
  have g24 := hG.1
  have gn := hG.2.2.1 v hv
  have xn := hM.2.1 v hv
  have cl : (nI v).toNatClampNeg = v := nI_clamp (by omega)
  have i24 : vp_in (nI v) 24 := vp_in_nI (by omega) (by decide)
  have h5 : n ≤ 5 := hW.2.1 ▸ tg_wl5 o
  unfold wpX_workNode
  dsimp only
  rw [cl, xn.2.2.2.2.2]
  refine ⟨i24, tg_br (G v 5 = 0) (nI_eq (b := 0) (by have := gn.2.2.2.2.2.2.1; omega) (by decide)) (fun hf => ?_) (fun hf => ?_)⟩
  · refine tg_x_workWords hG hM hW hv hf (fun r hr => ⟨fun q => ?_, fun q => ?_⟩)
    · refine h f_grown a_words a_pairs ⟨S.1, ?_⟩
      rcases S.2 with ⟨z1, z2, z3, z4⟩ | z
      · refine Or.inl ⟨z1, z2, z3, fun v' hv' => ?_⟩
        by_cases e : v' = v
        · subst e
          refine ⟨fun _ b y => ?_, fun y => by omega⟩
          have := (hr b).mpr y
          rw [q] at this
          exact this
        · exact z4 v' (by omega)
      · exact Or.inr z
    · obtain ⟨I1, up⟩ := tg_xstepW hW.1 hW.2.1 hG S.1 hv hf hr
      refine h 1 (vp_updL a_words v r) a_pairs ⟨I1, Or.inr ⟨rfl, Nat.lt_of_le_of_lt (tg_Xs_le S) (tg_xltW (by omega) hf up (fun b z => ?_) q)⟩⟩
      have := (tg_xW_true hW.1 hW.2.1 hG S.1.1 hv hf ((hr b).mp z)).1
      omega
  · have hf : G v 5 = 1 := (tg_f01 hG hv).resolve_left hf
    refine pk_loop (σ := Int32 × (Nat → Int64) × (Nat → Int64)) (fun f p s => wX_workNode_17 post (nI v) f (nI p) f_count f_settled f_height f_trees f_charted f_chartLength f_chartBits s.1 a_kind a_mark a_fixed a_first a_second a_footed a_stack a_root s.2.1 s.2.2 a_baseWords a_wrapPairs) (fun p s => tg_Xk n o g T G R a_baseWords a_wrapPairs W0 P0 v p p s.1 s.2.1 s.2.2) (n + 1) 0 (f_grown, a_words, a_pairs) (by omega) ?_ ?_ ?_
    · refine ⟨S.1, ?_⟩
      rcases S.2 with ⟨z1, z2, z3, z4⟩ | z
      · exact Or.inl ⟨z1, z2, z3, z4, fun p' q' b _ _ y => by omega⟩
      · exact Or.inr z
    · intro f ⟨m, W, P⟩ I
      refine br_t ?_ (h m W P ⟨I.1, ?_⟩)
      · rw [hW.2.2.1]; exact nI_lt (by omega) (by omega)
      · rcases I.2 with ⟨z1, z2, z3, z4, z5⟩ | z
        · refine Or.inl ⟨z1, z2, z3, fun v' hv' => ?_⟩
          by_cases e : v' = v
          · subst e
            exact ⟨fun y => by omega, fun _ p q b y1 y2 y3 => z5 p q b y1 y2 (by omega) y3⟩
          · exact z4 v' (by omega)
        · exact Or.inr z
    · intro f p ⟨m, W, P⟩ hp I K
      dsimp only at I K ⊢
      refine br_f ?_ (pk_loop (σ := Int32 × (Nat → Int64) × (Nat → Int64)) (fun f' q s => wX_workNode_27 post (wX_workNode_17 post (nI v) f) (nI v) (nI p) f' (nI q) f_count f_settled f_height f_trees f_charted f_chartLength f_chartBits s.1 a_kind a_mark a_fixed a_first a_second a_footed a_stack a_root s.2.1 s.2.2 a_baseWords a_wrapPairs) (fun q s => p ≤ q ∧ tg_Xk n o g T G R a_baseWords a_wrapPairs W0 P0 v p q s.1 s.2.1 s.2.2) (n + 1) p (m, W, P) (by omega) ⟨Nat.le_refl p, I⟩ ?_ ?_)
      · rw [hW.2.2.1]; exact nI_nlt (by omega) (by omega)
      · intro f' ⟨m, W, P⟩ ⟨_, I⟩
        dsimp only at I
        refine br_t ?_ (nm_r (nI_1 p) (K (m, W, P) ⟨I.1, ?_⟩))
        · rw [hW.2.2.1]; exact nI_lt (by omega) (by omega)
        · dsimp only
          rcases I.2 with ⟨z1, z2, z3, z4, z5⟩ | z
          · exact Or.inl ⟨z1, z2, z3, z4, fun p' q' b y1 y2 y3 => z5 p' q' b y1 y2 (by omega)⟩
          · exact Or.inr z
      · intro f' q ⟨m, W, P⟩ hq ⟨hpq, I⟩ K'
        dsimp only at I K' ⊢
        refine br_f ?_ ?_
        · rw [hW.2.2.1]; exact nI_nlt (by omega) (by omega)
        · have e6 : nI p * 6 + nI q = nI (p * 6 + q) := by rw [show (6 : Int32) = nI 6 from rfl, pk_mul, nI_add]
          rw [e6]
          have c6 := tg_cut6 p q (by omega)
          refine tg_x_workPairs hG hM h5 hW.2.2.1 hv hf (by omega) (fun r hr => ⟨fun y => ?_, fun y => ?_⟩)
          · refine nm_r (nI_1 q) (K' (m, W, P) ⟨by omega, I.1, ?_⟩)
            dsimp only
            rcases I.2 with ⟨z1, z2, z3, z4, z5⟩ | z
            · refine Or.inl ⟨z1, z2, z3, z4, fun p' q' b y1 y2 y3 y4 => ?_⟩
              by_cases e : p' = p ∧ q' = q
              · obtain ⟨rfl, rfl⟩ := e
                have := (hr b).mpr y4
                rw [y] at this
                exact this
              · exact z5 p' q' b y1 y2 (by omega) y4
            · exact Or.inr z
          · obtain ⟨I1, up⟩ := tg_xstepP hW.1 hW.2.1 hG I.1 hv hf (show p * 6 + q < 36 by omega) (by omega) (by omega) hr
            refine nm_r (nI_1 q) (K' (1, W, vp_updL P (v * 36 + (p * 6 + q)) r) ⟨by omega, I1, Or.inr ⟨rfl, Nat.lt_of_le_of_lt (tg_Xk_le I) (tg_xltP hv g24 (by omega) hf up (fun b z => ?_) y)⟩⟩)
            obtain ⟨y1, y2, y3, y4⟩ := (tg_xP_true hW.1 hW.2.1 hG I.1.1 hv hf (show p * 6 + q < 36 by omega) (by omega) (by omega) ((hr b).mp z)).1
            omega
theorem tg_x_gather (hG : tg_Gr g T G R) (hM : tg_XM g T G R f_trees a_kind a_mark a_fixed a_first a_second a_footed a_root)
    {post : SX → Prop} (h : ∀ B E, tg_gB T G R a_words a_baseWords B → tg_gE T G R a_pairs a_wrapPairs E → post (f_count, f_settled, f_height, f_trees, f_charted, f_chartLength, f_chartBits, f_grown, a_kind, a_mark, a_fixed, a_first, a_second, a_footed, a_stack, a_root, a_words, a_pairs, B, E)) : wpX_gather post (f_count, f_settled, f_height, f_trees, f_charted, f_chartLength, f_chartBits, f_grown, a_kind, a_mark, a_fixed, a_first, a_second, a_footed, a_stack, a_root, a_words, a_pairs, a_baseWords, a_wrapPairs) := by
  have g24 := hG.1
  have T4 := hG.2.1
  obtain ⟨rfl, hN, hR⟩ := hM
  refine pk_loop (σ := (Nat → Int64) × (Nat → Int64)) (fun f t s => wX_gather_2 post f_count f_settled f_height (nI T) f_charted f_chartLength f_chartBits f_grown f (nI t) a_kind a_mark a_fixed a_first a_second a_footed a_stack a_root a_words a_pairs s.1 s.2) (fun t s => tg_gB t G R a_words a_baseWords s.1 ∧ tg_gE t G R a_pairs a_wrapPairs s.2) T 0 (a_baseWords, a_wrapPairs) (by omega) ?_ ?_ ?_
  · exact ⟨fun a b => ⟨Or.inl, fun z => z.elim id (fun ⟨t, y, _⟩ => by omega)⟩, fun a b => ⟨Or.inl, fun z => z.elim id (fun ⟨t, y, _⟩ => by omega)⟩⟩
  · exact fun f ⟨B, E⟩ I => br_t (nI_le (Nat.le_refl T) (by omega)) (h B E I.1 I.2)
  · intro f t ⟨B, E⟩ ht ⟨IB, IE⟩ K
    dsimp only at IB IE K ⊢
    obtain ⟨hr, k5⟩ := hG.2.2.2 t ht
    have gn := hG.2.2.1 _ hr
    have xn := hN _ hr
    have l3 := gn.2.1 (Or.inr k5)
    have i4 : vp_in (nI t) 4 := vp_in_nI (by omega) (by decide)
    have i24 : vp_in (nI (R t)) 24 := vp_in_nI (by omega) (by decide)
    have i3 : vp_in (nI (G (R t) 1)) 3 := vp_in_nI l3 (by decide)
    refine br_f (nI_ge ht (by omega)) ⟨i4, ?_⟩
    rw [nI_clamp (show t < 2 ^ 31 by omega), hR t ht]
    refine nm_e ⟨i24, ?_⟩
    rw [nI_clamp (show R t < 2 ^ 31 by omega), xn.2.2.1 (Or.inr k5), xn.2.2.2.2.2]
    refine nm_e ⟨i24, tg_br (G (R t) 5 = 0) (nI_eq (b := 0) (by have := gn.2.2.2.2.2.2.1; omega) (by decide)) (fun hf => ?_) (fun hf => ?_)⟩
    · rw [nI_clamp (show G (R t) 1 < 2 ^ 31 by omega)]
      refine ⟨i3, i24, i3, nm_e (nm_r (nI_1 t) (K (vp_updL B (G (R t) 1) (B (G (R t) 1) ||| a_words (R t)), E) ⟨fun a b => ?_, fun i b => ?_⟩))⟩
      · dsimp only
        by_cases e : a = G (R t) 1
        · subst e
          rw [pk_uLs, tg_ori, IB _ b]
          constructor
          · rintro ((y | ⟨t', y1, y2⟩) | y)
            · exact Or.inl y
            · exact Or.inr ⟨t', by omega, y2⟩
            · exact Or.inr ⟨t, by omega, hf, rfl, y⟩
          · rintro (y | ⟨t', y1, y2, y3, y4⟩)
            · exact Or.inl (Or.inl y)
            · by_cases e' : t' = t
              · subst e'; exact Or.inr y4
              · exact Or.inl (Or.inr ⟨t', by omega, y2, y3, y4⟩)
        · rw [pk_uLn e, IB a b]
          constructor
          · rintro (y | ⟨t', y1, y2⟩)
            · exact Or.inl y
            · exact Or.inr ⟨t', by omega, y2⟩
          · rintro (y | ⟨t', y1, y2, y3, y4⟩)
            · exact Or.inl y
            · by_cases e' : t' = t
              · subst e'; exact absurd y3.symm e
              · exact Or.inr ⟨t', by omega, y2, y3, y4⟩
      · dsimp only
        rw [IE i b]
        constructor
        · rintro (y | ⟨t', y1, y2⟩)
          · exact Or.inl y
          · exact Or.inr ⟨t', by omega, y2⟩
        · rintro (y | ⟨t', y1, y2, y3⟩)
          · exact Or.inl y
          · by_cases e' : t' = t
            · subst e'; omega
            · exact Or.inr ⟨t', by omega, y2, y3⟩
    · have hf : G (R t) 5 = 1 := (tg_f01 hG hr).resolve_left hf
      have e36 : ∀ x s, nI x * 36 + nI s = nI (x * 36 + s) := fun x s => by rw [show (36 : Int32) = nI 36 from rfl, pk_mul, nI_add]
      refine pk_loop (fun f' s E' => wX_gather_58 post (wX_gather_2 post f_count f_settled f_height (nI T) f_charted f_chartLength f_chartBits f_grown f) (nI t) (nI (R t)) (nI (G (R t) 1)) f_count f_settled f_height (nI T) f_charted f_chartLength f_chartBits f_grown f' (nI s) a_kind a_mark a_fixed a_first a_second a_footed a_stack a_root a_words a_pairs B E') (fun s E' => ∀ i b, tg_b (E' i) b = true ↔ (tg_b (E i) b = true ∨ ∃ s', s' < s ∧ i = G (R t) 1 * 36 + s' ∧ tg_b (a_pairs (R t * 36 + s')) b = true)) 36 0 E (by omega) ?_ ?_ ?_
      · exact fun i b => ⟨Or.inl, fun z => z.elim id (fun ⟨t, y, _⟩ => by omega)⟩
      · intro f' E' J
        refine br_t (nI_le (Nat.le_refl 36) (by decide)) (nm_r (nI_1 t) (K (B, E') ⟨fun a b => ?_, fun i b => ?_⟩))
        · dsimp only
          rw [IB a b]
          constructor
          · rintro (y | ⟨t', y1, y2⟩)
            · exact Or.inl y
            · exact Or.inr ⟨t', by omega, y2⟩
          · rintro (y | ⟨t', y1, y2, y3⟩)
            · exact Or.inl y
            · by_cases e' : t' = t
              · subst e'; omega
              · exact Or.inr ⟨t', by omega, y2, y3⟩
        · dsimp only
          rw [J i b, IE i b]
          constructor
          · rintro ((y | ⟨t', y1, y2⟩) | y)
            · exact Or.inl y
            · exact Or.inr ⟨t', by omega, y2⟩
            · exact Or.inr ⟨t, by omega, hf, y⟩
          · rintro (y | ⟨t', y1, y2, y3⟩)
            · exact Or.inl (Or.inl y)
            · by_cases e' : t' = t
              · subst e'; exact Or.inr y3
              · exact Or.inl (Or.inr ⟨t', by omega, y2, y3⟩)
      · intro f' s E' hs J K'
        refine br_f (nI_ge (b := 36) hs (by decide)) ?_
        rw [e36, e36, nI_clamp (show G (R t) 1 * 36 + s < 2 ^ 31 by omega), nI_clamp (show R t * 36 + s < 2 ^ 31 by omega)]
        refine ⟨vp_in_nI (by omega) (by decide), vp_in_nI (by omega) (by decide), vp_in_nI (by omega) (by decide), nm_e (nm_r (nI_1 s) (K' _ (fun i b => ?_)))⟩
        by_cases e : i = G (R t) 1 * 36 + s
        · subst e
          rw [pk_uLs, tg_ori, J _ b]
          constructor
          · rintro ((y | ⟨s', y1, y2⟩) | y)
            · exact Or.inl y
            · exact Or.inr ⟨s', by omega, y2⟩
            · exact Or.inr ⟨s, by omega, rfl, y⟩
          · rintro (y | ⟨s', y1, y2, y3⟩)
            · exact Or.inl (Or.inl y)
            · obtain rfl : s' = s := by omega
              exact Or.inr y3
        · rw [pk_uLn e, J i b]
          constructor
          · rintro (y | ⟨s', y1, y2⟩)
            · exact Or.inl y
            · exact Or.inr ⟨s', by omega, y2⟩
          · rintro (y | ⟨s', y1, y2, y3⟩)
            · exact Or.inl y
            · by_cases e' : s' = s
              · subst e'; exact absurd y2 e
              · exact Or.inr ⟨s', by omega, y2, y3⟩
end
end
section
/-! the component's walks: chart -/
theorem tg_o2 : ∀ o, o < 63 → 2 ^ tg_wl o ≤ o + 1 := by decide +kernel
section
variable {f_count f_settled f_height f_trees f_charted f_chartLength f_chartBits f_grown : Int32} {a_kind a_mark a_fixed a_first a_second a_footed a_stack a_root : Nat → Int32} {a_words a_pairs a_baseWords a_wrapPairs : Nat → Int64}
variable {n o g T : Nat} {G : Nat → Nat → Nat} {R : Nat → Nat}
theorem tg_x_chart140 (hG : tg_Gr g T G R) (hM : tg_XM g T G R f_trees a_kind a_mark a_fixed a_first a_second a_footed a_root) (hW : tg_XW n o f_chartLength f_chartBits) (hs : f_settled = nI g)
    {post : SX → Prop} (I0 : tg_XI n o g T G R a_words a_pairs a_baseWords a_wrapPairs) (X0 : tg_XG T G R a_words a_pairs a_baseWords a_wrapPairs)
    (h : ∀ m W P B E, tg_XR n o g T G R W P B → post (f_count, f_settled, f_height, f_trees, 1, f_chartLength, f_chartBits, m, a_kind, a_mark, a_fixed, a_first, a_second, a_footed, a_stack, a_root, W, P, B, E)) : ∃ f, wX_chart_140 post f 0 f_count f_settled f_height f_trees f_charted f_chartLength f_chartBits 1 a_kind a_mark a_fixed a_first a_second a_footed a_stack a_root a_words a_pairs a_baseWords a_wrapPairs := by
  have g24 := hG.1
  subst hs
  refine loop_m (σ := Int32 × Nat × (Nat → Int64) × (Nat → Int64) × (Nat → Int64) × (Nat → Int64)) (fun f s => wX_chart_140 post f (nI s.2.1) f_count (nI g) f_height f_trees f_charted f_chartLength f_chartBits s.1 a_kind a_mark a_fixed a_first a_second a_footed a_stack a_root s.2.2.1 s.2.2.2.1 s.2.2.2.2.1 s.2.2.2.2.2)
    (fun s => tg_XI n o g T G R s.2.2.1 s.2.2.2.1 s.2.2.2.2.1 s.2.2.2.2.2 ∧ tg_XG T G R s.2.2.1 s.2.2.2.1 s.2.2.2.2.1 s.2.2.2.2.2 ∧ s.2.1 ≤ 3100 ∧
      ((s.1 = 0 ∧ ∀ v, v < g → tg_XC n o G s.2.2.1 s.2.2.2.1 s.2.2.2.2.1 s.2.2.2.2.2 v) ∨ (s.1 = 1 ∧ s.2.1 ≤ tg_xn g G s.2.2.1 s.2.2.2.1))) (fun s => 3101 - s.2.1) ?_ (1, 0, a_words, a_pairs, a_baseWords, a_wrapPairs) ⟨I0, X0, Nat.zero_le _, Or.inr ⟨rfl, Nat.zero_le _⟩⟩
  intro f ⟨m, r, W, P, B, E⟩ ⟨I, X, hr, hm⟩ K
  dsimp only at I X hr hm K ⊢
  have le := tg_xn_le hG I.1
  refine pk_le 3100 r (fun q => ?_) (fun q => br_c (fun z => ?_) (fun z => ?_))
  · rcases hm with ⟨_, c⟩ | ⟨_, c⟩
    · exact h m W P B E (tg_XR_of hW.1 hW.2.1 hG I.1 X c)
    · omega
  · rcases hm with ⟨_, c⟩ | ⟨c, _⟩
    · exact h m W P B E (tg_XR_of hW.1 hW.2.1 hG I.1 X c)
    · rw [c] at z; exact absurd z (by decide)
  · have m1 : r ≤ tg_xn g G W P := by
      rcases hm with ⟨c, _⟩ | ⟨_, c⟩
      · exact absurd c z
      · exact c
    refine pk_loop (σ := Int32 × (Nat → Int64) × (Nat → Int64)) (fun f' v s => wX_chart_162 post (wX_chart_140 post f) (nI r) f' (nI v) f_count (nI g) f_height f_trees f_charted f_chartLength f_chartBits s.1 a_kind a_mark a_fixed a_first a_second a_footed a_stack a_root s.2.1 s.2.2 B E) (fun v s => tg_Xs n o g T G R B E W P v s.1 s.2.1 s.2.2) g 0 (0, W, P) (by omega) ⟨I, Or.inl ⟨rfl, rfl, rfl, fun v' hv' => by omega⟩⟩ ?_ ?_
    · intro f' ⟨m', W', P'⟩ S
      dsimp only at S ⊢
      refine br_t (nI_le (Nat.le_refl g) (by omega)) (tg_x_gather hG hM (fun B' E' hB hE => nm_r (nI_1 r) (K (m', r + 1, W', P', B', E') ?_ (by dsimp only; omega))))
      dsimp only
      obtain ⟨I', X'⟩ := tg_gather hG S.1 hB hE
      refine ⟨I', X', by omega, ?_⟩
      rcases S.2 with ⟨z1, z2, z3, z4⟩ | ⟨z1, z2⟩
      · subst z2
        subst z3
        obtain ⟨rfl, rfl⟩ := tg_gather_same X hB hE
        exact Or.inl ⟨z1, z4⟩
      · exact Or.inr ⟨z1, by omega⟩
    · intro f' v ⟨m', W', P'⟩ hv S K'
      dsimp only at S K' ⊢
      exact br_f (nI_ge hv (by omega)) (tg_x_workNode hG hM hW hv S (fun m'' W'' P'' S' => nm_r (nI_1 v) (K' (m'', W'', P'') S')))
theorem tg_x_chart86 (hG : tg_Gr g T G R) (hM : tg_XM g T G R f_trees a_kind a_mark a_fixed a_first a_second a_footed a_root) (hW : tg_XW n o f_chartLength f_chartBits) (hs : f_settled = nI g)
    {post : SX → Prop} (zW : ∀ j, j < 24 → a_words j = 0) (zP : ∀ j, j < 24 * 36 → a_pairs j = 0)
    (h : ∀ m W P B E, tg_XR n o g T G R W P B → post (f_count, f_settled, f_height, f_trees, 1, f_chartLength, f_chartBits, m, a_kind, a_mark, a_fixed, a_first, a_second, a_footed, a_stack, a_root, W, P, B, E)) : ∃ f, wX_chart_86 post f_count f_settled f_height f_trees f_charted f_chartLength f_chartBits f_grown f 0 a_kind a_mark a_fixed a_first a_second a_footed a_stack a_root a_words a_pairs a_baseWords a_wrapPairs := by
  have g24 := hG.1
  have e36 : ∀ x s, nI x * 36 + nI s = nI (x * 36 + s) := fun x s => by rw [show (36 : Int32) = nI 36 from rfl, pk_mul, nI_add]
  refine pk_loop (σ := (Nat → Int64) × (Nat → Int64)) (fun f a s => wX_chart_86 post f_count f_settled f_height f_trees f_charted f_chartLength f_chartBits f_grown f (nI a) a_kind a_mark a_fixed a_first a_second a_footed a_stack a_root a_words a_pairs s.1 s.2) (fun a s => (∀ j, j < a → s.1 j = 0) ∧ ∀ j, j < a * 36 → s.2 j = 0) 3 0 (a_baseWords, a_wrapPairs) (by omega) ⟨fun j hj => by omega, fun j hj => by omega⟩ ?_ ?_
  · intro f ⟨B, E⟩ ⟨zB, zE⟩
    dsimp only at zB zE ⊢
    have nW : ∀ v b, v < g → ¬ tg_b (a_words v) b = true := fun v b hv q => by rw [zW v (by omega)] at q; exact tg_0n q
    have nP : ∀ v s b, v < g → s < 36 → ¬ tg_b (a_pairs (v * 36 + s)) b = true := fun v s b hv hs q => by rw [zP _ (by omega)] at q; exact tg_0n q
    have nB : ∀ a b, a < 3 → ¬ tg_b (B a) b = true := fun v b hv q => by rw [zB v (by omega)] at q; exact tg_0n q
    have nE : ∀ a s b, a < 3 → s < 36 → ¬ tg_b (E (a * 36 + s)) b = true := fun v s b hv hs q => by rw [zE _ (by omega)] at q; exact tg_0n q
    refine br_t (nI_le (Nat.le_refl 3) (by decide)) (tg_x_chart140 hG hM hW hs ?_ ?_ h)
    · exact ⟨⟨fun v b hv q => absurd q (nW v b hv), fun v s b hv hs q => absurd q (nP v s b hv hs), fun a b ha q => absurd q (nB a b ha), fun a s b ha hs q => absurd q (nE a s b ha hs)⟩,
        ⟨fun v b hv _ q => absurd q (nW v b hv), fun v s b hv hs _ q => absurd q (nP v s b hv hs)⟩⟩
    · exact fun t ht => ⟨fun _ b q => absurd q (nW _ b (hG.2.2.2 t ht).1), fun _ s b hs q => absurd q (nP _ s b (hG.2.2.2 t ht).1 hs)⟩
  · intro f a ⟨B, E⟩ ha ⟨zB, zE⟩ K
    dsimp only at zB zE K ⊢
    refine br_f (nI_ge (b := 3) ha (by decide)) ⟨vp_in_nI ha (by decide), nm_e ?_⟩
    rw [nI_clamp (by omega)]
    refine pk_loop (fun f' s E' => wX_chart_101 post (wX_chart_86 post f_count f_settled f_height f_trees f_charted f_chartLength f_chartBits f_grown f) (nI a) f_count f_settled f_height f_trees f_charted f_chartLength f_chartBits f_grown f' (nI s) a_kind a_mark a_fixed a_first a_second a_footed a_stack a_root a_words a_pairs (vp_updL B a 0) E') (fun s E' => ∀ j, j < a * 36 + s → E' j = 0) 36 0 E (by omega) (fun j hj => zE j (by omega)) ?_ ?_
    · intro f' E' J
      refine br_t (nI_le (Nat.le_refl 36) (by decide)) (nm_r (nI_1 a) (K (vp_updL B a 0, E') ⟨fun j hj => ?_, fun j hj => J j (by omega)⟩))
      dsimp only
      by_cases e : j = a
      · rw [e, pk_uLs]
      · rw [pk_uLn e]; exact zB j (by omega)
    · intro f' s E' hs J K'
      refine br_f (nI_ge (b := 36) hs (by decide)) ?_
      rw [e36, nI_clamp (by omega)]
      refine ⟨vp_in_nI (by omega) (by decide), nm_e (nm_r (nI_1 s) (K' _ (fun j hj => ?_)))⟩
      by_cases e : j = a * 36 + s
      · rw [e, pk_uLs]
      · rw [pk_uLn e]; exact J j (by omega)
theorem tg_x_chart36 (hG : tg_Gr g T G R) (hM : tg_XM g T G R f_trees a_kind a_mark a_fixed a_first a_second a_footed a_root) (hW : tg_XW n o f_chartLength f_chartBits) (hs : f_settled = nI g)
    {post : SX → Prop} (h : ∀ m W P B E, tg_XR n o g T G R W P B → post (f_count, f_settled, f_height, f_trees, 1, f_chartLength, f_chartBits, m, a_kind, a_mark, a_fixed, a_first, a_second, a_footed, a_stack, a_root, W, P, B, E)) : ∃ f, wX_chart_36 post f_count f_settled f_height f_trees f_charted f_chartLength f_chartBits f_grown f 0 a_kind a_mark a_fixed a_first a_second a_footed a_stack a_root a_words a_pairs a_baseWords a_wrapPairs := by
  have g24 := hG.1
  have e36 : ∀ x s, nI x * 36 + nI s = nI (x * 36 + s) := fun x s => by rw [show (36 : Int32) = nI 36 from rfl, pk_mul, nI_add]
  refine pk_loop (σ := (Nat → Int64) × (Nat → Int64)) (fun f a s => wX_chart_36 post f_count f_settled f_height f_trees f_charted f_chartLength f_chartBits f_grown f (nI a) a_kind a_mark a_fixed a_first a_second a_footed a_stack a_root s.1 s.2 a_baseWords a_wrapPairs) (fun a s => (∀ j, j < a → s.1 j = 0) ∧ ∀ j, j < a * 36 → s.2 j = 0) 24 0 (a_words, a_pairs) (by omega) ⟨fun j hj => by omega, fun j hj => by omega⟩ ?_ ?_
  · intro f ⟨W, P⟩ ⟨zW, zP⟩
    dsimp only at zW zP ⊢
    exact br_t (nI_le (Nat.le_refl 24) (by decide)) (tg_x_chart86 hG hM hW hs zW zP h)
  · intro f a ⟨W, P⟩ ha ⟨zW, zP⟩ K
    dsimp only at zW zP K ⊢
    refine br_f (nI_ge (b := 24) ha (by decide)) ⟨vp_in_nI ha (by decide), nm_e ?_⟩
    rw [nI_clamp (by omega)]
    refine pk_loop (fun f' s E' => wX_chart_52 post (wX_chart_36 post f_count f_settled f_height f_trees f_charted f_chartLength f_chartBits f_grown f) (nI a) f_count f_settled f_height f_trees f_charted f_chartLength f_chartBits f_grown f' (nI s) a_kind a_mark a_fixed a_first a_second a_footed a_stack a_root (vp_updL W a 0) E' a_baseWords a_wrapPairs) (fun s E' => ∀ j, j < a * 36 + s → E' j = 0) 36 0 P (by omega) (fun j hj => zP j (by omega)) ?_ ?_
    · intro f' E' J
      refine br_t (nI_le (Nat.le_refl 36) (by decide)) (nm_r (nI_1 a) (K (vp_updL W a 0, E') ⟨fun j hj => ?_, fun j hj => J j (by omega)⟩))
      dsimp only
      by_cases e : j = a
      · rw [e, pk_uLs]
      · rw [pk_uLn e]; exact zW j (by omega)
    · intro f' s E' hs J K'
      refine br_f (nI_ge (b := 36) hs (by decide)) ?_
      rw [e36, nI_clamp (by omega)]
      refine ⟨vp_in_nI (by omega) (by decide), nm_e (nm_r (nI_1 s) (K' _ (fun j hj => ?_)))⟩
      by_cases e : j = a * 36 + s
      · rw [e, pk_uLs]
      · rw [pk_uLn e]; exact J j (by omega)
/-- what the state says of the chart -/
def tg_XQ (g T : Nat) (G : Nat → Nat → Nat) (R : Nat → Nat) (f_charted f_chartLength f_chartBits : Int32) (W P B : Nat → Int64) : Prop :=
  f_charted = 0 ∨ (f_charted = 1 ∧ ∃ n o, tg_XW n o f_chartLength f_chartBits ∧ tg_XR n o g T G R W P B)
theorem tg_x_chart (hG : tg_Gr g T G R) (hM : tg_XM g T G R f_trees a_kind a_mark a_fixed a_first a_second a_footed a_root) (hs : f_settled = nI g) (hQ : tg_XQ g T G R f_charted f_chartLength f_chartBits a_words a_pairs a_baseWords)
    (ho : o < 63) (hn : tg_wl o = n)
    {post : SX → Prop} (h : ∀ m W P B E, tg_XR n o g T G R W P B → post (f_count, f_settled, f_height, f_trees, 1, nI n, nI (o + 1 - 2 ^ n), m, a_kind, a_mark, a_fixed, a_first, a_second, a_footed, a_stack, a_root, W, P, B, E)) : wpX_chart post (f_count, f_settled, f_height, f_trees, f_charted, f_chartLength, f_chartBits, f_grown, a_kind, a_mark, a_fixed, a_first, a_second, a_footed, a_stack, a_root, a_words, a_pairs, a_baseWords, a_wrapPairs) (nI n) (nI (o + 1 - 2 ^ n)) := by
  have h5 : n ≤ 5 := hn ▸ tg_wl5 o
  have b32 : o + 1 - 2 ^ n < 32 := by have := tg_b32 o ho; rw [hn] at this; exact this
  have new : wX_chart_24 post (nI n) (nI (o + 1 - 2 ^ n)) f_count f_settled f_height f_trees f_charted f_chartLength f_chartBits f_grown a_kind a_mark a_fixed a_first a_second a_footed a_stack a_root a_words a_pairs a_baseWords a_wrapPairs := tg_x_chart36 hG hM ⟨ho, hn, rfl, rfl⟩ hs h
  rcases hQ with z | ⟨z, n', o', ⟨w1, w2, w3, w4⟩, X⟩
  · exact br_t z new
  · have h5' : n' ≤ 5 := w2 ▸ tg_wl5 o'
    have b32' : o' + 1 - 2 ^ n' < 32 := by have := tg_b32 o' w1; rw [w2] at this; exact this
    refine br_f (by rw [z]; decide) (br_c (fun e1 => br_c (fun e2 => ?_) (fun _ => new)) (fun _ => new))
    obtain rfl : n' = n := by
      rw [w3] at e1
      exact (nI_eq (by omega) (by omega)).mp e1
    obtain rfl : o' = o := by
      rw [w4] at e2
      have := (nI_eq (by omega) (by omega)).mp e2
      have a1 := tg_o2 o ho
      have a2 := tg_o2 o' w1
      rw [hn] at a1
      rw [w2] at a2
      omega
    subst z w3 w4
    exact h f_grown a_words a_pairs a_baseWords a_wrapPairs X
end
end
section
/-! the relation -/
def tg_Core (c g h T : Nat) (G : Nat → Nat → Nat) (S R : Nat → Nat) : Prop :=
  g ≤ c ∧ c ≤ 24 ∧ h ≤ 5 ∧ T ≤ 4 ∧ (∀ v, v < c → tg_GN g v (G v)) ∧ (∀ i, i < h → g ≤ S i ∧ S i < c) ∧ ∀ t, t < T → R t < g ∧ 5 ≤ G (R t) 0
def tg_RX (c g h T : Nat) (G : Nat → Nat → Nat) (S R : Nat → Nat) (u : SX) : Prop := match u with
  | (f_count, f_settled, f_height, f_trees, f_charted, f_chartLength, f_chartBits, f_grown, a_kind, a_mark, a_fixed, a_first, a_second, a_footed, a_stack, a_root, a_words, a_pairs, a_baseWords, a_wrapPairs) => f_count = nI c ∧ f_settled = nI g ∧ f_height = nI h ∧ (∀ i, i < h → a_stack i = nI (S i)) ∧
    tg_XM c T G R f_trees a_kind a_mark a_fixed a_first a_second a_footed a_root ∧ tg_XQ g T G R f_charted f_chartLength f_chartBits a_words a_pairs a_baseWords
def tg_RY (c g h T : Nat) (G : Nat → Nat → Nat) (S R : Nat → Nat) (v : SY) : Prop := match v with
  | (f_count, f_trees, f_grown, f_depth, a_kind, a_label, a_fixed, a_first, a_second, a_overFoot, a_roots, a_stack, a_words, a_pairs) => f_count = nI c ∧ f_grown = nI g ∧ f_depth = nI h ∧ (∀ i, i < h → a_stack i = nI (S i)) ∧
    tg_YG c T G R f_trees a_kind a_label a_fixed a_first a_second a_overFoot a_roots ∧ tg_YR g T G R a_words a_pairs
def i_Rel (_ : Nat) (u : SX) (v : SY) : Prop := ∃ c g h T G S R, tg_Core c g h T G S R ∧ tg_RX c g h T G S R u ∧ tg_RY c g h T G S R v
def tg_nd (k l x y f t : Nat) : Nat → Nat
  | 0 => k
  | 1 => l
  | 2 => x
  | 3 => y
  | 4 => f
  | _ => t
def tg_put {α : Type} (f : Nat → α) (k : Nat) (x : α) : Nat → α := fun j => if j = k then x else f j
theorem tg_puts {α : Type} {f : Nat → α} {k : Nat} {x : α} : tg_put f k x k = x := if_pos rfl
theorem tg_putn {α : Type} {f : Nat → α} {k j : Nat} {x : α} (h : j ≠ k) : tg_put f k x j = f j := if_neg h
theorem tg_Core_Gr {c g h T : Nat} {G : Nat → Nat → Nat} {S R : Nat → Nat} (C : tg_Core c g h T G S R) : tg_Gr g T G R :=
  ⟨by have := C.1; have := C.2.1; omega, C.2.2.2.1, fun v hv => C.2.2.2.2.1 v (by have := C.1; omega), C.2.2.2.2.2.2⟩
theorem tg_Core_push {c g h T e : Nat} {G : Nat → Nat → Nat} {S R : Nat → Nat} (C : tg_Core c g h T G S R) (c24 : c < 24) (he : e ≤ h) (he5 : e < 5) {nd : Nat → Nat} (hn : tg_GN g c nd) : tg_Core (c + 1) g (e + 1) T (tg_put G c nd) (tg_put S e c) R := by
  obtain ⟨C1, C2, C3, C4, C5, C6, C7⟩ := C
  refine ⟨by omega, by omega, by omega, C4, fun v hv => ?_, fun i hi => ?_, fun t ht => ?_⟩
  · by_cases z : v = c
    · rw [z, tg_puts]; exact hn
    · rw [tg_putn z]; exact C5 v (by omega)
  · by_cases z : i = e
    · rw [z, tg_puts]; omega
    · rw [tg_putn z]; have := C6 i (by omega); omega
  · have := C7 t ht
    rw [tg_putn (by omega)]; exact this
section
variable {f_count f_settled f_height f_trees f_charted f_chartLength f_chartBits f_grown : Int32} {a_kind a_mark a_fixed a_first a_second a_footed a_stack a_root : Nat → Int32} {a_words a_pairs a_baseWords a_wrapPairs : Nat → Int64}
theorem tg_XM_le {c g T : Nat} {G : Nat → Nat → Nat} {R : Nat → Nat} (h : g ≤ c) (M : tg_XM c T G R f_trees a_kind a_mark a_fixed a_first a_second a_footed a_root) : tg_XM g T G R f_trees a_kind a_mark a_fixed a_first a_second a_footed a_root :=
  ⟨M.1, fun v hv => M.2.1 v (by omega), M.2.2⟩
theorem tg_XR_congr {n o g T : Nat} {G G' : Nat → Nat → Nat} {R R' : Nat → Nat} {W P B : Nat → Int64} (hG : tg_Gr g T G R) (eG : ∀ v, v < g → G' v = G v) (eR : ∀ t, t < T → R' t = R t) (X : tg_XR n o g T G R W P B) : tg_XR n o g T G' R' W P B :=
  ⟨fun v hv => (X.1 v hv).trans (tg_LW_congr hG eG eR).symm, fun v k hv hk => (X.2.1 v k hv hk).trans (tg_LP_congr hG eG eR).symm, fun a ha => (X.2.2 a ha).trans (tg_BL_congr hG eG eR).symm⟩
theorem tg_RX_push {c g h T e : Nat} {G : Nat → Nat → Nat} {S R : Nat → Nat} (C : tg_Core c g h T G S R) (X : tg_RX c g h T G S R (f_count, f_settled, f_height, f_trees, f_charted, f_chartLength, f_chartBits, f_grown, a_kind, a_mark, a_fixed, a_first, a_second, a_footed, a_stack, a_root, a_words, a_pairs, a_baseWords, a_wrapPairs)) (he : e ≤ h) {nd : Nat → Nat} {k m fx fi se ft : Int32} (N : tg_XN nd k m fx fi se ft) :
    tg_RX (c + 1) g (e + 1) T (tg_put G c nd) (tg_put S e c) R (nI (c + 1), f_settled, nI (e + 1), f_trees, f_charted, f_chartLength, f_chartBits, f_grown, upd a_kind c k, upd a_mark c m, upd a_fixed c fx, upd a_first c fi, upd a_second c se, upd a_footed c ft, upd a_stack e (nI c), a_root, a_words, a_pairs, a_baseWords, a_wrapPairs) := by
  obtain ⟨X1, X2, X3, X4, X5, X6⟩ := X
  refine ⟨rfl, X2, rfl, fun i hi => ?_, ⟨X5.1, fun v hv => ?_, X5.2.2⟩, ?_⟩
  · by_cases z : i = e
    · rw [z, tg_puts, pk_us]
    · rw [tg_putn z, pk_un z]; exact X4 i (by omega)
  · by_cases z : v = c
    · rw [z, tg_puts, pk_us, pk_us, pk_us, pk_us, pk_us, pk_us]; exact N
    · rw [tg_putn z, pk_un z, pk_un z, pk_un z, pk_un z, pk_un z, pk_un z]; exact X5.2.1 v (by omega)
  · rcases X6 with q | ⟨q, n, o, q1, q2⟩
    · exact Or.inl q
    · exact Or.inr ⟨q, n, o, q1, tg_XR_congr (tg_Core_Gr C) (fun v hv => tg_putn (by have := C.1; omega)) (fun _ _ => rfl) q2⟩
theorem tg_x_make {post : SX → Prop} {c : Nat} {p0 p1 p2 p3 p4 : Int32} (c24 : c < 24) (hc : f_count = nI c) (h2 : p2 = 0 ∨ p2 = 1) (i3 : ¬ p3 < 0 → vp_in p3 24) (i4 : ¬ p4 < 0 → vp_in p4 24) {z : Nat} (hz : z ≤ 1)
    (hf : z = 1 ↔ (p0 = 3 ∨ (¬ p3 < 0 ∧ ¬ a_footed p3.toNatClampNeg = 0) ∨ (¬ p4 < 0 ∧ ¬ a_footed p4.toNatClampNeg = 0)))
    (h : post (nI (c + 1), f_settled, f_height, f_trees, f_charted, f_chartLength, f_chartBits, f_grown, upd a_kind c p0, upd a_mark c p1, upd a_fixed c p2, upd a_first c p3, upd a_second c p4, upd a_footed c (nI z), a_stack, a_root, a_words, a_pairs, a_baseWords, a_wrapPairs)) : wpX_make post (f_count, f_settled, f_height, f_trees, f_charted, f_chartLength, f_chartBits, f_grown, a_kind, a_mark, a_fixed, a_first, a_second, a_footed, a_stack, a_root, a_words, a_pairs, a_baseWords, a_wrapPairs) p0 p1 p2 p3 p4 := by
  subst hc
  have n2 : vp_nar .boolean p2 = p2 := by rcases h2 with rfl | rfl <;> rfl
  have cl : (nI c).toNatClampNeg = c := nI_clamp (by omega)
  have ic : vp_in (nI c) 24 := vp_in_nI c24 (by decide)
  have m1 : z = 1 → wX_make_95 post (nI c) (nI c) f_settled f_height f_trees f_charted f_chartLength f_chartBits f_grown (upd a_kind c p0) (upd a_mark c p1) (upd a_fixed c p2) (upd a_first c p3) (upd a_second c p4) a_footed a_stack a_root a_words a_pairs a_baseWords a_wrapPairs := by
    intro e
    unfold wX_make_95 wX_make_100
    rw [cl]
    refine ⟨ic, nm_e (nm_r (nI_1 c) ?_)⟩
    rw [e] at h
    exact h
  have m0 : z ≠ 1 → wX_make_99 post (nI c) (nI c) f_settled f_height f_trees f_charted f_chartLength f_chartBits f_grown (upd a_kind c p0) (upd a_mark c p1) (upd a_fixed c p2) (upd a_first c p3) (upd a_second c p4) a_footed a_stack a_root a_words a_pairs a_baseWords a_wrapPairs := by
    intro e
    obtain rfl : z = 0 := by omega
    unfold wX_make_99 wX_make_100
    rw [cl]
    exact ⟨ic, nm_e (nm_r (nI_1 c) h)⟩
  have m8 : p0 ≠ 3 → ¬ (¬ p3 < 0 ∧ ¬ a_footed p3.toNatClampNeg = 0) → wX_make_80 post p4 (nI c) (nI c) f_settled f_height f_trees f_charted f_chartLength f_chartBits f_grown (upd a_kind c p0) (upd a_mark c p1) (upd a_fixed c p2) (upd a_first c p3) (upd a_second c p4) a_footed a_stack a_root a_words a_pairs a_baseWords a_wrapPairs := by
    intro e1 e2
    unfold wX_make_80
    exact br_c (fun q => m0 (fun y => by rcases hf.mp y with y | y | y; exact e1 y; exact e2 y; exact y.1 q)) (fun q => ⟨i4 q, br_c (fun q2 => m0 (fun y => by rcases hf.mp y with y | y | y; exact e1 y; exact e2 y; exact y.2 q2)) (fun q2 => m1 (hf.mpr (Or.inr (Or.inr ⟨q, q2⟩))))⟩)
  unfold wpX_make
  dsimp only
  rw [cl, n2]
  exact ⟨ic, nm_e ⟨ic, nm_e ⟨ic, nm_e ⟨ic, nm_e ⟨ic, nm_e (br_c (fun q => m1 (hf.mpr (Or.inl q))) (fun q => br_c (fun q2 => m8 q (fun y => y.1 q2)) (fun q2 => ⟨i3 q2, br_c (fun q3 => m8 q (fun y => y.2 q3)) (fun q3 => m1 (hf.mpr (Or.inr (Or.inl ⟨q2, q3⟩))))⟩)))⟩⟩⟩⟩⟩
theorem tg_x_leaf {c g h T : Nat} {G : Nat → Nat → Nat} {S R : Nat → Nat} (C : tg_Core c g h T G S R) (X : tg_RX c g h T G S R (f_count, f_settled, f_height, f_trees, f_charted, f_chartLength, f_chartBits, f_grown, a_kind, a_mark, a_fixed, a_first, a_second, a_footed, a_stack, a_root, a_words, a_pairs, a_baseWords, a_wrapPairs)) {nd : Nat → Nat} {p0 p1 : Int32} (N : tg_XN nd p0 p1 0 (-1) (-1) (nI (nd 5))) (n5 : nd 5 ≤ 1) (nf : nd 5 = 1 ↔ p0 = 3)
    {post : Int32 → SX → Prop} (h1 : (c = 24 ∨ h = 5) → post (-2) (f_count, f_settled, f_height, f_trees, f_charted, f_chartLength, f_chartBits, f_grown, a_kind, a_mark, a_fixed, a_first, a_second, a_footed, a_stack, a_root, a_words, a_pairs, a_baseWords, a_wrapPairs))
    (h2 : c < 24 → h < 5 → tg_RX (c + 1) g (h + 1) T (tg_put G c nd) (tg_put S h c) R (nI (c + 1), f_settled, nI (h + 1), f_trees, f_charted, f_chartLength, f_chartBits, f_grown, upd a_kind c p0, upd a_mark c p1, upd a_fixed c 0, upd a_first c (-1), upd a_second c (-1), upd a_footed c (nI (nd 5)), upd a_stack h (nI c), a_root, a_words, a_pairs, a_baseWords, a_wrapPairs) →
      post (nI (h + 1)) (nI (c + 1), f_settled, nI (h + 1), f_trees, f_charted, f_chartLength, f_chartBits, f_grown, upd a_kind c p0, upd a_mark c p1, upd a_fixed c 0, upd a_first c (-1), upd a_second c (-1), upd a_footed c (nI (nd 5)), upd a_stack h (nI c), a_root, a_words, a_pairs, a_baseWords, a_wrapPairs)) : wpX_leaf post (f_count, f_settled, f_height, f_trees, f_charted, f_chartLength, f_chartBits, f_grown, a_kind, a_mark, a_fixed, a_first, a_second, a_footed, a_stack, a_root, a_words, a_pairs, a_baseWords, a_wrapPairs) p0 p1 := by
  have Y := tg_RX_push C X (Nat.le_refl h) N
  obtain ⟨X1, X2, X3, _⟩ := X
  have c24 := C.2.1
  have h5 := C.2.2.1
  refine tg_br (c = 24) (by rw [X1]; exact nI_eq (b := 24) (by omega) (by decide)) (fun q => h1 (Or.inl q)) (fun q => tg_br (h = 5) (by rw [X3]; exact nI_eq (b := 5) (by omega) (by decide)) (fun q => h1 (Or.inr q)) (fun q2 => ?_))
  refine tg_x_make (c := c) (by omega) X1 (Or.inl rfl) (fun z => absurd (show (-1 : Int32) < 0 by decide) z) (fun z => absurd (show (-1 : Int32) < 0 by decide) z) n5 ?_ ?_
  · rw [nf]
    exact ⟨Or.inl, fun z => by rcases z with z | z | z; exact z; exact absurd (show (-1 : Int32) < 0 by decide) z.1; exact absurd (show (-1 : Int32) < 0 by decide) z.1⟩
  · dsimp only
    rw [X3, nI_pred, nI_clamp (by omega)]
    exact ⟨vp_in_nI (by omega) (by decide), nm_e (nm_r (nI_1 h) (h2 (by omega) (by omega) Y))⟩
end
section
variable {f_count f_trees f_grown f_depth : Int32} {a_kind a_label a_fixed a_first a_second a_overFoot a_roots a_stack : Nat → Int32} {a_words a_pairs : Nat → Int64}
theorem tg_YG_le {c g T : Nat} {G : Nat → Nat → Nat} {R : Nat → Nat} (h : g ≤ c) (M : tg_YG c T G R f_trees a_kind a_label a_fixed a_first a_second a_overFoot a_roots) : tg_YG g T G R f_trees a_kind a_label a_fixed a_first a_second a_overFoot a_roots :=
  ⟨M.1, fun v hv => M.2.1 v (by omega), M.2.2⟩
theorem tg_YR_congr {g T : Nat} {G G' : Nat → Nat → Nat} {R R' : Nat → Nat} {W Q : Nat → Int64} (hG : tg_Gr g T G R) (eG : ∀ v, v < g → G' v = G v) (eR : ∀ t, t < T → R' t = R t) (X : tg_YR g T G R W Q) : tg_YR g T G' R' W Q :=
  ⟨fun v w hv => (X.1 v w hv).trans (tg_LW_congr hG eG eR).symm, fun v k w hv hk => (X.2 v k w hv hk).trans (tg_LP_congr hG eG eR).symm⟩
theorem tg_RY_push {c g h T e : Nat} {G : Nat → Nat → Nat} {S R : Nat → Nat} (C : tg_Core c g h T G S R) {d : Int32} (X : tg_RY c g h T G S R (f_count, f_trees, f_grown, d, a_kind, a_label, a_fixed, a_first, a_second, a_overFoot, a_roots, a_stack, a_words, a_pairs)) (he : e ≤ h) {nd : Nat → Nat} {k m fx fi se ft : Int32} (N : tg_YN nd k m fx fi se ft) :
    tg_RY (c + 1) g (e + 1) T (tg_put G c nd) (tg_put S e c) R (nI (c + 1), f_trees, f_grown, nI (e + 1), upd a_kind c k, upd a_label c m, upd a_fixed c fx, upd a_first c fi, upd a_second c se, upd a_overFoot c ft, a_roots, upd a_stack e (nI c), a_words, a_pairs) := by
  obtain ⟨X1, X2, X3, X4, X5, X6⟩ := X
  refine ⟨rfl, X2, rfl, fun i hi => ?_, ⟨X5.1, fun v hv => ?_, X5.2.2⟩, ?_⟩
  · by_cases z : i = e
    · rw [z, tg_puts, pk_us]
    · rw [tg_putn z, pk_un z]; exact X4 i (by omega)
  · by_cases z : v = c
    · rw [z, tg_puts, pk_us, pk_us, pk_us, pk_us, pk_us, pk_us]; exact N
    · rw [tg_putn z, pk_un z, pk_un z, pk_un z, pk_un z, pk_un z, pk_un z]; exact X5.2.1 v (by omega)
  · exact tg_YR_congr (tg_Core_Gr C) (fun v hv => tg_putn (by have := C.1; omega)) (fun _ _ => rfl) X6
theorem tg_y_make {post : Int32 → SY → Prop} {c e : Nat} {p0 p1 p2 p3 p4 : Int32} (c24 : c < 24) (e5 : e < 5) (hc : f_count = nI c) (hd : f_depth = nI e) (h2 : p2 = 0 ∨ p2 = 1) (i3 : ¬ p0 ≤ 4 → vp_in p3 24) (i4 : p0 = 6 → vp_in p4 24) {z : Nat} (hz : z ≤ 1)
    (hf : z = 1 ↔ (p0 = 4 ∨ (¬ p0 ≤ 4 ∧ ¬ a_overFoot p3.toNatClampNeg = 0) ∨ (p0 = 6 ∧ ¬ a_overFoot p4.toNatClampNeg = 0)))
    (h : post (nI (e + 1)) (nI (c + 1), f_trees, f_grown, nI (e + 1), upd a_kind c p0, upd a_label c p1, upd a_fixed c p2, upd a_first c p3, upd a_second c p4, upd a_overFoot c (nI z), a_roots, upd a_stack e (nI c), a_words, a_pairs)) : wpY_make post (f_count, f_trees, f_grown, f_depth, a_kind, a_label, a_fixed, a_first, a_second, a_overFoot, a_roots, a_stack, a_words, a_pairs) p0 p1 p2 p3 p4 := by
  subst hc hd
  have n2 : vp_nar .boolean p2 = p2 := by rcases h2 with rfl | rfl <;> rfl
  have cl : (nI c).toNatClampNeg = c := nI_clamp (by omega)
  have ce : (nI e).toNatClampNeg = e := nI_clamp (by omega)
  have ic : vp_in (nI c) 24 := vp_in_nI c24 (by decide)
  have ie : vp_in (nI e) 5 := vp_in_nI e5 (by decide)
  have m1 : z = 1 → wY_make_96 post (nI c) (nI c) f_trees f_grown (nI e) (upd a_kind c p0) (upd a_label c p1) (upd a_fixed c p2) (upd a_first c p3) (upd a_second c p4) a_overFoot a_roots a_stack a_words a_pairs := by
    intro q
    unfold wY_make_96 wY_make_101
    rw [cl, ce]
    refine ⟨ic, nm_e ⟨ie, nm_e (nm_r (nI_1 c) (nm_r (nI_1 e) ?_))⟩⟩
    rw [q] at h
    exact h
  have m0 : z ≠ 1 → wY_make_100 post (nI c) (nI c) f_trees f_grown (nI e) (upd a_kind c p0) (upd a_label c p1) (upd a_fixed c p2) (upd a_first c p3) (upd a_second c p4) a_overFoot a_roots a_stack a_words a_pairs := by
    intro q
    obtain rfl : z = 0 := by omega
    unfold wY_make_100 wY_make_101
    rw [cl, ce]
    exact ⟨ic, nm_e ⟨ie, nm_e (nm_r (nI_1 c) (nm_r (nI_1 e) h))⟩⟩
  have m8 : p0 ≠ 4 → ¬ (¬ p0 ≤ 4 ∧ ¬ a_overFoot p3.toNatClampNeg = 0) → wY_make_80 post p0 p4 (nI c) (nI c) f_trees f_grown (nI e) (upd a_kind c p0) (upd a_label c p1) (upd a_fixed c p2) (upd a_first c p3) (upd a_second c p4) a_overFoot a_roots a_stack a_words a_pairs := by
    intro e1 e2
    unfold wY_make_80
    exact br_c (fun q => ⟨i4 q, br_c (fun q2 => m0 (fun y => by rcases hf.mp y with y | y | y; exact e1 y; exact e2 y; exact y.2 q2)) (fun q2 => m1 (hf.mpr (Or.inr (Or.inr ⟨q, q2⟩))))⟩) (fun q => m0 (fun y => by rcases hf.mp y with y | y | y; exact e1 y; exact e2 y; exact q y.1))
  unfold wpY_make
  dsimp only
  rw [cl, n2]
  exact ⟨ic, nm_e ⟨ic, nm_e ⟨ic, nm_e ⟨ic, nm_e ⟨ic, nm_e (br_c (fun q => m1 (hf.mpr (Or.inl q))) (fun q => br_c (fun q2 => m8 q (fun y => y.1 q2)) (fun q2 => ⟨i3 q2, br_c (fun q3 => m8 q (fun y => y.2 q3)) (fun q3 => m1 (hf.mpr (Or.inr (Or.inl ⟨q2, q3⟩))))⟩)))⟩⟩⟩⟩⟩
theorem tg_y_leaf {c g h T : Nat} {G : Nat → Nat → Nat} {S R : Nat → Nat} (C : tg_Core c g h T G S R) (X : tg_RY c g h T G S R (f_count, f_trees, f_grown, f_depth, a_kind, a_label, a_fixed, a_first, a_second, a_overFoot, a_roots, a_stack, a_words, a_pairs)) {nd : Nat → Nat} {p0 p1 : Int32} (N : tg_YN nd p0 p1 1 0 0 (nI (nd 5))) (p4 : p0 ≤ 4) (p6 : p0 ≠ 6) (n5 : nd 5 ≤ 1) (nf : nd 5 = 1 ↔ p0 = 4)
    {post : Int32 → SY → Prop} (h1 : (c = 24 ∨ h = 5) → post (-2) (f_count, f_trees, f_grown, f_depth, a_kind, a_label, a_fixed, a_first, a_second, a_overFoot, a_roots, a_stack, a_words, a_pairs))
    (h2 : c < 24 → h < 5 → tg_RY (c + 1) g (h + 1) T (tg_put G c nd) (tg_put S h c) R (nI (c + 1), f_trees, f_grown, nI (h + 1), upd a_kind c p0, upd a_label c p1, upd a_fixed c 1, upd a_first c 0, upd a_second c 0, upd a_overFoot c (nI (nd 5)), a_roots, upd a_stack h (nI c), a_words, a_pairs) →
      post (nI (h + 1)) (nI (c + 1), f_trees, f_grown, nI (h + 1), upd a_kind c p0, upd a_label c p1, upd a_fixed c 1, upd a_first c 0, upd a_second c 0, upd a_overFoot c (nI (nd 5)), a_roots, upd a_stack h (nI c), a_words, a_pairs)) : wpY_leaf post (f_count, f_trees, f_grown, f_depth, a_kind, a_label, a_fixed, a_first, a_second, a_overFoot, a_roots, a_stack, a_words, a_pairs) p0 p1 := by
  have Y := tg_RY_push C X (Nat.le_refl h) N
  obtain ⟨X1, X2, X3, _⟩ := X
  have c24 := C.2.1
  have h5 := C.2.2.1
  refine tg_br (c = 24) (by rw [X1]; exact nI_eq (b := 24) (by omega) (by decide)) (fun q => h1 (Or.inl q)) (fun q => tg_br (h = 5) (by rw [X3]; exact nI_eq (b := 5) (by omega) (by decide)) (fun q => h1 (Or.inr q)) (fun q2 => ?_))
  refine tg_y_make (c := c) (e := h) (by omega) (by omega) X1 X3 (Or.inr rfl) (fun z => absurd p4 z) (fun z => absurd z p6) n5 ?_ ?_
  · rw [nf]
    exact ⟨Or.inl, fun z => by rcases z with z | z | z; exact z; exact absurd p4 z.1; exact absurd z.1 p6⟩
  · exact h2 (by omega) (by omega) Y
end
end
section
/-! node and fork -/
def tg_ok (N : Nat) (x : Int32) : Prop := ∃ a, a < N ∧ x = nI a
theorem tg_ok_of {N : Nat} {x : Int32} (hN : N < 2 ^ 31) (h0 : ¬ x < 0) (h1 : x < nI N) : tg_ok N x := by
  obtain ⟨j, hj, rfl⟩ := nI_of h0
  exact ⟨j, (nI_ltI hj hN).mp h1, rfl⟩
theorem tg_le1 {x : Int32} : ¬ x < 0 → x ≤ 1 → tg_ok 2 x := by
  intro h0 h1
  obtain ⟨j, hj, rfl⟩ := nI_of h0
  have := (nI_leI (b := 1) hj (by decide)).mp h1
  exact ⟨j, by omega, rfl⟩
theorem tg_z0 {a : Nat} (h : a ≤ 1) : nI a = 0 ↔ a = 0 := nI_eq (b := 0) (by omega) (by decide)
section
variable {f_count f_settled f_height f_trees f_charted f_chartLength f_chartBits f_grown : Int32} {a_kind a_mark a_fixed a_first a_second a_footed a_stack a_root : Nat → Int32} {a_words a_pairs a_baseWords a_wrapPairs : Nat → Int64}
theorem tg_x_bad1 {post : Int32 → Prop} {x : Int32} (hb : ¬ tg_ok 3 x) (h : post 1) : wpX_badLabel post (f_count, f_settled, f_height, f_trees, f_charted, f_chartLength, f_chartBits, f_grown, a_kind, a_mark, a_fixed, a_first, a_second, a_footed, a_stack, a_root, a_words, a_pairs, a_baseWords, a_wrapPairs) x :=
  br_c (fun _ => h) (fun q => br_c (fun q2 => absurd (tg_ok_of (by decide) q q2) hb) (fun _ => h))
theorem tg_x_bad0 {post : Int32 → Prop} {a : Nat} (ha : a < 3) (h : post 0) : wpX_badLabel post (f_count, f_settled, f_height, f_trees, f_charted, f_chartLength, f_chartBits, f_grown, a_kind, a_mark, a_fixed, a_first, a_second, a_footed, a_stack, a_root, a_words, a_pairs, a_baseWords, a_wrapPairs) (nI a) :=
  br_f (nI_pos (by omega)) (br_t (nI_lt (b := 3) ha (by decide)) h)
variable {c g h T : Nat} {G : Nat → Nat → Nat} {S R : Nat → Nat}
theorem tg_x_node54 {e a f : Nat} (C : tg_Core c g (e + 1) T G S R) (X : tg_RX c g (e + 1) T G S R (f_count, f_settled, f_height, f_trees, f_charted, f_chartLength, f_chartBits, f_grown, a_kind, a_mark, a_fixed, a_first, a_second, a_footed, a_stack, a_root, a_words, a_pairs, a_baseWords, a_wrapPairs)) (c24 : c < 24) (ha : a < 3) (hf : f < 2) {post : Int32 → SX → Prop}
    (k : tg_RX (c + 1) g (e + 1) T (tg_put G c (tg_nd 5 a (S e) 0 f (G (S e) 5))) (tg_put S e c) R (nI (c + 1), f_settled, nI (e + 1), f_trees, f_charted, f_chartLength, f_chartBits, f_grown, upd a_kind c 4, upd a_mark c (nI a), upd a_fixed c (nI f), upd a_first c (nI (S e)), upd a_second c (-1), upd a_footed c (nI (G (S e) 5)), upd a_stack e (nI c), a_root, a_words, a_pairs, a_baseWords, a_wrapPairs) →
      post (nI (e + 1)) (nI (c + 1), f_settled, nI (e + 1), f_trees, f_charted, f_chartLength, f_chartBits, f_grown, upd a_kind c 4, upd a_mark c (nI a), upd a_fixed c (nI f), upd a_first c (nI (S e)), upd a_second c (-1), upd a_footed c (nI (G (S e) 5)), upd a_stack e (nI c), a_root, a_words, a_pairs, a_baseWords, a_wrapPairs)) :
    wX_node_54 post (nI f) (nI a) 4 f_count f_settled f_height f_trees f_charted f_chartLength f_chartBits f_grown a_kind a_mark a_fixed a_first a_second a_footed a_stack a_root a_words a_pairs a_baseWords a_wrapPairs := by
  have Y := tg_RX_push (e := e) C X (by omega) (nd := tg_nd 5 a (S e) 0 f (G (S e) 5)) (k := 4) (m := nI a) (fx := nI f) (fi := nI (S e)) (se := -1) (ft := nI (G (S e) 5))
    ⟨rfl, fun q => by simp only [tg_nd] at q; omega, fun _ => rfl, fun _ => ⟨rfl, rfl⟩, fun q => by simp only [tg_nd] at q; omega, rfl⟩
  obtain ⟨X1, X2, X3, X4, X5, X6⟩ := X
  have h5 := C.2.2.1
  have se := C.2.2.2.2.2.1 e (by omega)
  have gn := C.2.2.2.2.1 _ se.2
  have xn := X5.2.1 _ se.2
  have i5 : vp_in (nI e) 5 := vp_in_nI (by omega) (by decide)
  unfold wX_node_54
  rw [X3, nI_pred, nI_clamp (show e < 2 ^ 31 by omega), X4 e (by omega)]
  refine ⟨i5, tg_x_make (c := c) c24 X1 (by rcases (show f = 0 ∨ f = 1 by omega) with rfl | rfl; exact Or.inl rfl; exact Or.inr rfl) (fun _ => vp_in_nI (by omega) (by decide)) (fun z => absurd (show (-1 : Int32) < 0 by decide) z) gn.2.2.2.2.2.2.1 ?_ ?_⟩
  · rw [nI_clamp (by omega), xn.2.2.2.2.2, tg_z0 gn.2.2.2.2.2.2.1]
    constructor
    · exact fun q => Or.inr (Or.inl ⟨nI_pos (by omega), by omega⟩)
    · rintro (q | q | q)
      · exact absurd q (by decide)
      · have := gn.2.2.2.2.2.2.1; omega
      · exact absurd (show (-1 : Int32) < 0 by decide) q.1
  · dsimp only
    rw [nI_pred, nI_pred, nI_clamp (by omega)]
    exact ⟨i5, nm_e (k Y)⟩
theorem tg_X_node (C : tg_Core c g h T G S R) (X : tg_RX c g h T G S R (f_count, f_settled, f_height, f_trees, f_charted, f_chartLength, f_chartBits, f_grown, a_kind, a_mark, a_fixed, a_first, a_second, a_footed, a_stack, a_root, a_words, a_pairs, a_baseWords, a_wrapPairs)) {a f : Nat} (ha : a < 3) (hf : f < 2) {post : Int32 → SX → Prop}
    (h24 : c = 24 → post (-2) (f_count, f_settled, f_height, f_trees, f_charted, f_chartLength, f_chartBits, f_grown, a_kind, a_mark, a_fixed, a_first, a_second, a_footed, a_stack, a_root, a_words, a_pairs, a_baseWords, a_wrapPairs)) (h0 : c < 24 → h = 0 → post (-3) (f_count, f_settled, f_height, f_trees, f_charted, f_chartLength, f_chartBits, f_grown, a_kind, a_mark, a_fixed, a_first, a_second, a_footed, a_stack, a_root, a_words, a_pairs, a_baseWords, a_wrapPairs))
    (k : ∀ e, h = e + 1 → c < 24 → tg_RX (c + 1) g (e + 1) T (tg_put G c (tg_nd 5 a (S e) 0 f (G (S e) 5))) (tg_put S e c) R (nI (c + 1), f_settled, nI (e + 1), f_trees, f_charted, f_chartLength, f_chartBits, f_grown, upd a_kind c 4, upd a_mark c (nI a), upd a_fixed c (nI f), upd a_first c (nI (S e)), upd a_second c (-1), upd a_footed c (nI (G (S e) 5)), upd a_stack e (nI c), a_root, a_words, a_pairs, a_baseWords, a_wrapPairs) →
      post (nI (e + 1)) (nI (c + 1), f_settled, nI (e + 1), f_trees, f_charted, f_chartLength, f_chartBits, f_grown, upd a_kind c 4, upd a_mark c (nI a), upd a_fixed c (nI f), upd a_first c (nI (S e)), upd a_second c (-1), upd a_footed c (nI (G (S e) 5)), upd a_stack e (nI c), a_root, a_words, a_pairs, a_baseWords, a_wrapPairs)) :
    wpX_node post (f_count, f_settled, f_height, f_trees, f_charted, f_chartLength, f_chartBits, f_grown, a_kind, a_mark, a_fixed, a_first, a_second, a_footed, a_stack, a_root, a_words, a_pairs, a_baseWords, a_wrapPairs) (nI a) (nI f) := by
  have c24 := C.2.1
  have h5 := C.2.2.1
  have X1 := X.1
  have X3 := X.2.2.1
  unfold wpX_node
  dsimp only
  refine tg_x_bad0 ha (br_t rfl (br_f (nI_pos (by omega)) (br_t (nI_le (b := 1) (by omega) (by decide)) (tg_br (c = 24) (by rw [X1]; exact nI_eq (b := 24) (by omega) (by decide)) h24 (fun q => tg_br (h = 0) (by rw [X3]; exact nI_eq (b := 0) (by omega) (by decide)) (h0 (by omega)) (fun q2 => ?_))))))
  obtain ⟨e, rfl⟩ : ∃ e, h = e + 1 := ⟨h - 1, by omega⟩
  have K := tg_x_node54 C X (by omega) ha hf (k e rfl (by omega))
  rcases (show f = 0 ∨ f = 1 by omega) with rfl | rfl
  · exact br_f (by decide) K
  · exact br_t rfl K
theorem tg_X_node_bad {x y : Int32} (hb : ¬ (tg_ok 3 x ∧ tg_ok 2 y)) {post : Int32 → SX → Prop} (k : post (-1) (f_count, f_settled, f_height, f_trees, f_charted, f_chartLength, f_chartBits, f_grown, a_kind, a_mark, a_fixed, a_first, a_second, a_footed, a_stack, a_root, a_words, a_pairs, a_baseWords, a_wrapPairs)) : wpX_node post (f_count, f_settled, f_height, f_trees, f_charted, f_chartLength, f_chartBits, f_grown, a_kind, a_mark, a_fixed, a_first, a_second, a_footed, a_stack, a_root, a_words, a_pairs, a_baseWords, a_wrapPairs) x y := by
  unfold wpX_node
  dsimp only
  by_cases z : tg_ok 3 x
  · obtain ⟨a, ha, rfl⟩ := z
    refine tg_x_bad0 ha (br_t rfl (br_c (fun _ => k) (fun q => br_c (fun q2 => absurd ⟨⟨a, ha, rfl⟩, tg_le1 q q2⟩ hb) (fun _ => k))))
  · exact tg_x_bad1 z (br_f (by decide) k)
theorem tg_x_fork93 {e a f : Nat} (C : tg_Core c g (e + 2) T G S R) (X : tg_RX c g (e + 2) T G S R (f_count, f_settled, f_height, f_trees, f_charted, f_chartLength, f_chartBits, f_grown, a_kind, a_mark, a_fixed, a_first, a_second, a_footed, a_stack, a_root, a_words, a_pairs, a_baseWords, a_wrapPairs)) (c24 : c < 24) (ha : a < 3) (hf : f < 2) {post : Int32 → SX → Prop}
    (k : tg_RX (c + 1) g (e + 1) T (tg_put G c (tg_nd 6 a (S e) (S (e + 1)) f (if G (S e) 5 = 0 then G (S (e + 1)) 5 else 1))) (tg_put S e c) R (nI (c + 1), f_settled, nI (e + 1), f_trees, f_charted, f_chartLength, f_chartBits, f_grown, upd a_kind c 5, upd a_mark c (nI a), upd a_fixed c (nI f), upd a_first c (nI (S e)), upd a_second c (nI (S (e + 1))), upd a_footed c (nI (if G (S e) 5 = 0 then G (S (e + 1)) 5 else 1)), upd a_stack e (nI c), a_root, a_words, a_pairs, a_baseWords, a_wrapPairs) →
      post (nI (e + 1)) (nI (c + 1), f_settled, nI (e + 1), f_trees, f_charted, f_chartLength, f_chartBits, f_grown, upd a_kind c 5, upd a_mark c (nI a), upd a_fixed c (nI f), upd a_first c (nI (S e)), upd a_second c (nI (S (e + 1))), upd a_footed c (nI (if G (S e) 5 = 0 then G (S (e + 1)) 5 else 1)), upd a_stack e (nI c), a_root, a_words, a_pairs, a_baseWords, a_wrapPairs)) :
    wX_fork_93 post (nI f) (nI a) 5 f_count f_settled f_height f_trees f_charted f_chartLength f_chartBits f_grown a_kind a_mark a_fixed a_first a_second a_footed a_stack a_root a_words a_pairs a_baseWords a_wrapPairs := by
  have Y := tg_RX_push (e := e) C X (by omega) (nd := tg_nd 6 a (S e) (S (e + 1)) f (if G (S e) 5 = 0 then G (S (e + 1)) 5 else 1)) (k := 5) (m := nI a) (fx := nI f) (fi := nI (S e)) (se := nI (S (e + 1))) (ft := nI (if G (S e) 5 = 0 then G (S (e + 1)) 5 else 1))
    ⟨rfl, fun q => by simp only [tg_nd] at q; omega, fun _ => rfl, fun _ => ⟨rfl, rfl⟩, fun _ => rfl, rfl⟩
  obtain ⟨X1, X2, X3, X4, X5, X6⟩ := X
  have h5 := C.2.2.1
  have se := C.2.2.2.2.2.1 e (by omega)
  have se1 := C.2.2.2.2.2.1 (e + 1) (by omega)
  have gn := C.2.2.2.2.1 _ se.2
  have xn := X5.2.1 _ se.2
  have gn1 := C.2.2.2.2.1 _ se1.2
  have xn1 := X5.2.1 _ se1.2
  have f1 := gn.2.2.2.2.2.2.1
  have f2 := gn1.2.2.2.2.2.2.1
  have i5 : vp_in (nI e) 5 := vp_in_nI (by omega) (by decide)
  have i51 : vp_in (nI (e + 1)) 5 := vp_in_nI (by omega) (by decide)
  have m2 : nI (e + 2) - 2 = nI e := by
    rw [show (2 : Int32) = nI 2 from rfl, pk_sub (by omega)]; exact congrArg nI (by omega)
  have m1 : nI (e + 2) - 1 = nI (e + 1) := nI_pred (e + 1)
  unfold wX_fork_93
  rw [X3, m2, m1, nI_clamp (show e < 2 ^ 31 by omega), nI_clamp (show e + 1 < 2 ^ 31 by omega), X4 e (by omega), X4 (e + 1) (by omega)]
  refine ⟨i5, i51, tg_x_make (c := c) c24 X1 (by rcases (show f = 0 ∨ f = 1 by omega) with rfl | rfl; exact Or.inl rfl; exact Or.inr rfl) (fun _ => vp_in_nI (by omega) (by decide)) (fun z => vp_in_nI (by omega) (by decide)) (z := if G (S e) 5 = 0 then G (S (e + 1)) 5 else 1) (by split <;> omega) ?_ ?_⟩
  · rw [nI_clamp (show S e < 2 ^ 31 by omega), nI_clamp (show S (e + 1) < 2 ^ 31 by omega), xn.2.2.2.2.2, xn1.2.2.2.2.2, tg_z0 f1, tg_z0 f2]
    constructor
    · intro q
      by_cases z : G (S e) 5 = 0
      · rw [if_pos z] at q
        exact Or.inr (Or.inr ⟨nI_pos (by omega), by omega⟩)
      · exact Or.inr (Or.inl ⟨nI_pos (by omega), z⟩)
    · rintro (q | q | q)
      · exact absurd q (by decide)
      · rw [if_neg q.2]
      · split <;> omega
  · dsimp only
    rw [m1]
    refine nm_e ?_
    rw [nI_pred, nI_pred, nI_clamp (by omega)]
    exact ⟨i5, nm_e (k Y)⟩
theorem tg_X_fork (C : tg_Core c g h T G S R) (X : tg_RX c g h T G S R (f_count, f_settled, f_height, f_trees, f_charted, f_chartLength, f_chartBits, f_grown, a_kind, a_mark, a_fixed, a_first, a_second, a_footed, a_stack, a_root, a_words, a_pairs, a_baseWords, a_wrapPairs)) {a f : Nat} (ha : a < 3) (hf : f < 2) {post : Int32 → SX → Prop}
    (h24 : c = 24 → post (-2) (f_count, f_settled, f_height, f_trees, f_charted, f_chartLength, f_chartBits, f_grown, a_kind, a_mark, a_fixed, a_first, a_second, a_footed, a_stack, a_root, a_words, a_pairs, a_baseWords, a_wrapPairs)) (h0 : c < 24 → h < 2 → post (-3) (f_count, f_settled, f_height, f_trees, f_charted, f_chartLength, f_chartBits, f_grown, a_kind, a_mark, a_fixed, a_first, a_second, a_footed, a_stack, a_root, a_words, a_pairs, a_baseWords, a_wrapPairs)) (hb : ∀ e, h = e + 2 → c < 24 → (G (S (e + 1)) 5 ≠ 0 ∧ G (S e) 5 ≠ 0) → post (-3) (f_count, f_settled, f_height, f_trees, f_charted, f_chartLength, f_chartBits, f_grown, a_kind, a_mark, a_fixed, a_first, a_second, a_footed, a_stack, a_root, a_words, a_pairs, a_baseWords, a_wrapPairs))
    (k : ∀ e, h = e + 2 → c < 24 → ¬ (G (S (e + 1)) 5 ≠ 0 ∧ G (S e) 5 ≠ 0) → tg_RX (c + 1) g (e + 1) T (tg_put G c (tg_nd 6 a (S e) (S (e + 1)) f (if G (S e) 5 = 0 then G (S (e + 1)) 5 else 1))) (tg_put S e c) R (nI (c + 1), f_settled, nI (e + 1), f_trees, f_charted, f_chartLength, f_chartBits, f_grown, upd a_kind c 5, upd a_mark c (nI a), upd a_fixed c (nI f), upd a_first c (nI (S e)), upd a_second c (nI (S (e + 1))), upd a_footed c (nI (if G (S e) 5 = 0 then G (S (e + 1)) 5 else 1)), upd a_stack e (nI c), a_root, a_words, a_pairs, a_baseWords, a_wrapPairs) →
      post (nI (e + 1)) (nI (c + 1), f_settled, nI (e + 1), f_trees, f_charted, f_chartLength, f_chartBits, f_grown, upd a_kind c 5, upd a_mark c (nI a), upd a_fixed c (nI f), upd a_first c (nI (S e)), upd a_second c (nI (S (e + 1))), upd a_footed c (nI (if G (S e) 5 = 0 then G (S (e + 1)) 5 else 1)), upd a_stack e (nI c), a_root, a_words, a_pairs, a_baseWords, a_wrapPairs)) :
    wpX_fork post (f_count, f_settled, f_height, f_trees, f_charted, f_chartLength, f_chartBits, f_grown, a_kind, a_mark, a_fixed, a_first, a_second, a_footed, a_stack, a_root, a_words, a_pairs, a_baseWords, a_wrapPairs) (nI a) (nI f) := by
  have c24 := C.2.1
  have h5 := C.2.2.1
  have X1 := X.1
  have X3 := X.2.2.1
  unfold wpX_fork
  dsimp only
  refine tg_x_bad0 ha (br_t rfl (br_f (nI_pos (by omega)) (br_t (nI_le (b := 1) (by omega) (by decide)) (tg_br (c = 24) (by rw [X1]; exact nI_eq (b := 24) (by omega) (by decide)) h24 (fun q => tg_br (h < 2) (by rw [X3]; exact nI_ltI (b := 2) (by omega) (by decide)) (h0 (by omega)) (fun q2 => ?_))))))
  obtain ⟨e, rfl⟩ : ∃ e, h = e + 2 := ⟨h - 2, by omega⟩
  have K : ¬ (G (S (e + 1)) 5 ≠ 0 ∧ G (S e) 5 ≠ 0) → wX_fork_80 post (nI a) (nI f) f_count f_settled f_height f_trees f_charted f_chartLength f_chartBits f_grown a_kind a_mark a_fixed a_first a_second a_footed a_stack a_root a_words a_pairs a_baseWords a_wrapPairs := by
    intro nb
    have K := tg_x_fork93 C X (by omega) ha hf (k e rfl (by omega) nb)
    rcases (show f = 0 ∨ f = 1 by omega) with rfl | rfl
    · exact br_f (by decide) K
    · exact br_t rfl K
  have se := C.2.2.2.2.2.1 e (by omega)
  have se1 := C.2.2.2.2.2.1 (e + 1) (by omega)
  have gn := C.2.2.2.2.1 _ se.2
  have gn1 := C.2.2.2.2.1 _ se1.2
  have X4 := X.2.2.2.1
  have xn := X.2.2.2.2.1.2.1 _ se.2
  have xn1 := X.2.2.2.2.1.2.1 _ se1.2
  have f1 := gn.2.2.2.2.2.2.1
  have f2 := gn1.2.2.2.2.2.2.1
  have i5 : vp_in (nI e) 5 := vp_in_nI (by omega) (by decide)
  have i51 : vp_in (nI (e + 1)) 5 := vp_in_nI (by omega) (by decide)
  have m2 : nI (e + 2) - 2 = nI e := by
    rw [show (2 : Int32) = nI 2 from rfl, pk_sub (by omega)]; exact congrArg nI (by omega)
  have m1 : nI (e + 2) - 1 = nI (e + 1) := nI_pred (e + 1)
  rw [X3, m1, m2, nI_clamp (show e < 2 ^ 31 by omega), nI_clamp (show e + 1 < 2 ^ 31 by omega), X4 e (by omega), X4 (e + 1) (by omega), nI_clamp (show S e < 2 ^ 31 by omega), nI_clamp (show S (e + 1) < 2 ^ 31 by omega), xn.2.2.2.2.2, xn1.2.2.2.2.2]
  rw [X3] at K
  refine ⟨i51, vp_in_nI (by omega) (by decide), tg_br (G (S (e + 1)) 5 = 0) (nI_eq (b := 0) (by omega) (by decide)) (fun q => K (fun z => z.1 q)) (fun q => ⟨i5, vp_in_nI (by omega) (by decide), tg_br (G (S e) 5 = 0) (nI_eq (b := 0) (by omega) (by decide)) (fun q => K (fun z => z.2 q)) (fun q3 => ?_)⟩)⟩
  have := hb e rfl (by omega) ⟨q, q3⟩
  rw [X3] at this
  exact this
theorem tg_X_fork_bad {x y : Int32} (hb : ¬ (tg_ok 3 x ∧ tg_ok 2 y)) {post : Int32 → SX → Prop} (k : post (-1) (f_count, f_settled, f_height, f_trees, f_charted, f_chartLength, f_chartBits, f_grown, a_kind, a_mark, a_fixed, a_first, a_second, a_footed, a_stack, a_root, a_words, a_pairs, a_baseWords, a_wrapPairs)) : wpX_fork post (f_count, f_settled, f_height, f_trees, f_charted, f_chartLength, f_chartBits, f_grown, a_kind, a_mark, a_fixed, a_first, a_second, a_footed, a_stack, a_root, a_words, a_pairs, a_baseWords, a_wrapPairs) x y := by
  unfold wpX_fork
  dsimp only
  by_cases z : tg_ok 3 x
  · obtain ⟨a, ha, rfl⟩ := z
    refine tg_x_bad0 ha (br_t rfl (br_c (fun _ => k) (fun q => br_c (fun q2 => absurd ⟨⟨a, ha, rfl⟩, tg_le1 q q2⟩ hb) (fun _ => k))))
  · exact tg_x_bad1 z (br_f (by decide) k)
end
section
variable {f_count f_trees f_grown f_depth : Int32} {a_kind a_label a_fixed a_first a_second a_overFoot a_roots a_stack : Nat → Int32} {a_words a_pairs : Nat → Int64}
theorem tg_y_lab0 {post : Int32 → Prop} {x : Int32} (hb : ¬ tg_ok 3 x) (h : post 0) : wpY_isLabel post (f_count, f_trees, f_grown, f_depth, a_kind, a_label, a_fixed, a_first, a_second, a_overFoot, a_roots, a_stack, a_words, a_pairs) x :=
  br_c (fun _ => h) (fun q => br_c (fun _ => h) (fun q2 => absurd (tg_ok_of (N := 3) (by decide) q (by
    obtain ⟨j, hj, rfl⟩ := nI_of q
    refine nI_lt ?_ (by decide)
    apply Classical.byContradiction
    intro z
    exact q2 (nI_lt (a := 2) (by omega) hj))) hb))
theorem tg_y_lab1 {post : Int32 → Prop} {a : Nat} (ha : a < 3) (h : post 1) : wpY_isLabel post (f_count, f_trees, f_grown, f_depth, a_kind, a_label, a_fixed, a_first, a_second, a_overFoot, a_roots, a_stack, a_words, a_pairs) (nI a) :=
  br_f (nI_pos (by omega)) (br_f (nI_nlt (b := 2) (a := 2) (by omega) (by decide) |> fun _ => by
    intro z
    have := (nI_ltI (a := 2) (by decide) (by omega)).mp z
    omega) h)
variable {c g h T : Nat} {G : Nat → Nat → Nat} {S R : Nat → Nat}
theorem tg_y_node64 {e a f : Nat} (C : tg_Core c g (e + 1) T G S R) {d : Int32} (X : tg_RY c g (e + 1) T G S R (f_count, f_trees, f_grown, d, a_kind, a_label, a_fixed, a_first, a_second, a_overFoot, a_roots, a_stack, a_words, a_pairs)) (c24 : c < 24) (ha : a < 3) (hf : f < 2) {post : Int32 → SY → Prop}
    (k : tg_RY (c + 1) g (e + 1) T (tg_put G c (tg_nd 5 a (S e) 0 f (G (S e) 5))) (tg_put S e c) R (nI (c + 1), f_trees, f_grown, nI (e + 1), upd a_kind c 5, upd a_label c (nI a), upd a_fixed c (nI f), upd a_first c (nI (S e)), upd a_second c 0, upd a_overFoot c (nI (G (S e) 5)), a_roots, upd a_stack e (nI c), a_words, a_pairs) →
      post (nI (e + 1)) (nI (c + 1), f_trees, f_grown, nI (e + 1), upd a_kind c 5, upd a_label c (nI a), upd a_fixed c (nI f), upd a_first c (nI (S e)), upd a_second c 0, upd a_overFoot c (nI (G (S e) 5)), a_roots, upd a_stack e (nI c), a_words, a_pairs)) :
    wY_node_64 post (nI f) (nI a) 5 f_count f_trees f_grown (nI e) a_kind a_label a_fixed a_first a_second a_overFoot a_roots a_stack a_words a_pairs := by
  have Y := tg_RY_push (e := e) C X (by omega) (nd := tg_nd 5 a (S e) 0 f (G (S e) 5)) (k := 5) (m := nI a) (fx := nI f) (fi := nI (S e)) (se := 0) (ft := nI (G (S e) 5))
    ⟨rfl, fun _ => rfl, rfl, fun _ => rfl, fun q => by simp only [tg_nd] at q; omega, rfl⟩
  obtain ⟨X1, X2, X3, X4, X5, X6⟩ := X
  have h5 := C.2.2.1
  have se := C.2.2.2.2.2.1 e (by omega)
  have gn := C.2.2.2.2.1 _ se.2
  have xn := X5.2.1 _ se.2
  have i5 : vp_in (nI e) 5 := vp_in_nI (by omega) (by decide)
  unfold wY_node_64
  rw [nI_clamp (show e < 2 ^ 31 by omega), X4 e (by omega)]
  refine ⟨i5, tg_y_make (c := c) (e := e) c24 (by omega) X1 rfl (by rcases (show f = 0 ∨ f = 1 by omega) with rfl | rfl; exact Or.inl rfl; exact Or.inr rfl) (fun _ => vp_in_nI (by omega) (by decide)) (fun z => absurd z (by decide)) gn.2.2.2.2.2.2.1 ?_ (k Y)⟩
  rw [nI_clamp (by omega), xn.2.2.2.2.2, tg_z0 gn.2.2.2.2.2.2.1]
  constructor
  · exact fun q => Or.inr (Or.inl ⟨by decide, by omega⟩)
  · rintro (q | q | q)
    · exact absurd q (by decide)
    · have := gn.2.2.2.2.2.2.1; omega
    · exact absurd q.1 (by decide)
theorem tg_Y_node (C : tg_Core c g h T G S R) (X : tg_RY c g h T G S R (f_count, f_trees, f_grown, f_depth, a_kind, a_label, a_fixed, a_first, a_second, a_overFoot, a_roots, a_stack, a_words, a_pairs)) {a f : Nat} (ha : a < 3) (hf : f < 2) {post : Int32 → SY → Prop}
    (h24 : c = 24 → post (-2) (f_count, f_trees, f_grown, f_depth, a_kind, a_label, a_fixed, a_first, a_second, a_overFoot, a_roots, a_stack, a_words, a_pairs)) (h0 : c < 24 → h = 0 → post (-3) (f_count, f_trees, f_grown, f_depth, a_kind, a_label, a_fixed, a_first, a_second, a_overFoot, a_roots, a_stack, a_words, a_pairs))
    (k : ∀ e, h = e + 1 → c < 24 → tg_RY (c + 1) g (e + 1) T (tg_put G c (tg_nd 5 a (S e) 0 f (G (S e) 5))) (tg_put S e c) R (nI (c + 1), f_trees, f_grown, nI (e + 1), upd a_kind c 5, upd a_label c (nI a), upd a_fixed c (nI f), upd a_first c (nI (S e)), upd a_second c 0, upd a_overFoot c (nI (G (S e) 5)), a_roots, upd a_stack e (nI c), a_words, a_pairs) →
      post (nI (e + 1)) (nI (c + 1), f_trees, f_grown, nI (e + 1), upd a_kind c 5, upd a_label c (nI a), upd a_fixed c (nI f), upd a_first c (nI (S e)), upd a_second c 0, upd a_overFoot c (nI (G (S e) 5)), a_roots, upd a_stack e (nI c), a_words, a_pairs)) :
    wpY_node post (f_count, f_trees, f_grown, f_depth, a_kind, a_label, a_fixed, a_first, a_second, a_overFoot, a_roots, a_stack, a_words, a_pairs) (nI a) (nI f) := by
  have c24 := C.2.1
  have h5 := C.2.2.1
  have X1 := X.1
  have X3 := X.2.2.1
  unfold wpY_node
  dsimp only
  refine tg_y_lab1 ha (br_f (by decide) (br_f (nI_pos (by omega)) (br_t (nI_le (b := 1) (by omega) (by decide)) (tg_br (c = 24) (by rw [X1]; exact nI_eq (b := 24) (by omega) (by decide)) h24 (fun q => tg_br (h = 0) (by rw [X3]; exact nI_eq (b := 0) (by omega) (by decide)) (h0 (by omega)) (fun q2 => ?_))))))
  obtain ⟨e, rfl⟩ : ∃ e, h = e + 1 := ⟨h - 1, by omega⟩
  have K := tg_y_node64 C X (by omega) ha hf (k e rfl (by omega))
  rw [X3]
  refine nm_r (nI_pred e) ?_
  rcases (show f = 0 ∨ f = 1 by omega) with rfl | rfl
  · exact br_f (by decide) K
  · exact br_t rfl K
theorem tg_Y_node_bad {x y : Int32} (hb : ¬ (tg_ok 3 x ∧ tg_ok 2 y)) {post : Int32 → SY → Prop} (k : post (-1) (f_count, f_trees, f_grown, f_depth, a_kind, a_label, a_fixed, a_first, a_second, a_overFoot, a_roots, a_stack, a_words, a_pairs)) : wpY_node post (f_count, f_trees, f_grown, f_depth, a_kind, a_label, a_fixed, a_first, a_second, a_overFoot, a_roots, a_stack, a_words, a_pairs) x y := by
  unfold wpY_node
  dsimp only
  by_cases z : tg_ok 3 x
  · obtain ⟨a, ha, rfl⟩ := z
    refine tg_y_lab1 ha (br_f (by decide) (br_c (fun _ => k) (fun q => br_c (fun q2 => absurd ⟨⟨a, ha, rfl⟩, tg_le1 q q2⟩ hb) (fun _ => k))))
  · exact tg_y_lab0 z (br_t rfl k)
theorem tg_y_fork104 {e a f : Nat} (C : tg_Core c g (e + 2) T G S R) {d : Int32} (X : tg_RY c g (e + 2) T G S R (f_count, f_trees, f_grown, d, a_kind, a_label, a_fixed, a_first, a_second, a_overFoot, a_roots, a_stack, a_words, a_pairs)) (c24 : c < 24) (ha : a < 3) (hf : f < 2) {post : Int32 → SY → Prop}
    (k : tg_RY (c + 1) g (e + 1) T (tg_put G c (tg_nd 6 a (S e) (S (e + 1)) f (if G (S e) 5 = 0 then G (S (e + 1)) 5 else 1))) (tg_put S e c) R (nI (c + 1), f_trees, f_grown, nI (e + 1), upd a_kind c 6, upd a_label c (nI a), upd a_fixed c (nI f), upd a_first c (nI (S e)), upd a_second c (nI (S (e + 1))), upd a_overFoot c (nI (if G (S e) 5 = 0 then G (S (e + 1)) 5 else 1)), a_roots, upd a_stack e (nI c), a_words, a_pairs) →
      post (nI (e + 1)) (nI (c + 1), f_trees, f_grown, nI (e + 1), upd a_kind c 6, upd a_label c (nI a), upd a_fixed c (nI f), upd a_first c (nI (S e)), upd a_second c (nI (S (e + 1))), upd a_overFoot c (nI (if G (S e) 5 = 0 then G (S (e + 1)) 5 else 1)), a_roots, upd a_stack e (nI c), a_words, a_pairs)) :
    wY_fork_104 post (nI f) (nI a) 6 f_count f_trees f_grown (nI e) a_kind a_label a_fixed a_first a_second a_overFoot a_roots a_stack a_words a_pairs := by
  have Y := tg_RY_push (e := e) C X (by omega) (nd := tg_nd 6 a (S e) (S (e + 1)) f (if G (S e) 5 = 0 then G (S (e + 1)) 5 else 1)) (k := 6) (m := nI a) (fx := nI f) (fi := nI (S e)) (se := nI (S (e + 1))) (ft := nI (if G (S e) 5 = 0 then G (S (e + 1)) 5 else 1))
    ⟨rfl, fun _ => rfl, rfl, fun _ => rfl, fun _ => rfl, rfl⟩
  obtain ⟨X1, X2, X3, X4, X5, X6⟩ := X
  have h5 := C.2.2.1
  have se := C.2.2.2.2.2.1 e (by omega)
  have se1 := C.2.2.2.2.2.1 (e + 1) (by omega)
  have gn := C.2.2.2.2.1 _ se.2
  have xn := X5.2.1 _ se.2
  have gn1 := C.2.2.2.2.1 _ se1.2
  have xn1 := X5.2.1 _ se1.2
  have f1 := gn.2.2.2.2.2.2.1
  have f2 := gn1.2.2.2.2.2.2.1
  have i5 : vp_in (nI e) 5 := vp_in_nI (by omega) (by decide)
  have i51 : vp_in (nI (e + 1)) 5 := vp_in_nI (by omega) (by decide)
  unfold wY_fork_104
  rw [nI_1, nI_clamp (show e < 2 ^ 31 by omega), nI_clamp (show e + 1 < 2 ^ 31 by omega), X4 e (by omega), X4 (e + 1) (by omega)]
  refine ⟨i5, i51, tg_y_make (c := c) (e := e) c24 (by omega) X1 rfl (by rcases (show f = 0 ∨ f = 1 by omega) with rfl | rfl; exact Or.inl rfl; exact Or.inr rfl) (fun _ => vp_in_nI (by omega) (by decide)) (fun z => vp_in_nI (by omega) (by decide)) (z := if G (S e) 5 = 0 then G (S (e + 1)) 5 else 1) (by split <;> omega) ?_ (k Y)⟩
  rw [nI_clamp (show S e < 2 ^ 31 by omega), nI_clamp (show S (e + 1) < 2 ^ 31 by omega), xn.2.2.2.2.2, xn1.2.2.2.2.2, tg_z0 f1, tg_z0 f2]
  constructor
  · intro q
    by_cases z : G (S e) 5 = 0
    · rw [if_pos z] at q
      exact Or.inr (Or.inr ⟨rfl, by omega⟩)
    · exact Or.inr (Or.inl ⟨by decide, z⟩)
  · rintro (q | q | q)
    · exact absurd q (by decide)
    · rw [if_neg q.2]
    · split <;> omega
theorem tg_Y_fork (C : tg_Core c g h T G S R) (X : tg_RY c g h T G S R (f_count, f_trees, f_grown, f_depth, a_kind, a_label, a_fixed, a_first, a_second, a_overFoot, a_roots, a_stack, a_words, a_pairs)) {a f : Nat} (ha : a < 3) (hf : f < 2) {post : Int32 → SY → Prop}
    (h24 : c = 24 → post (-2) (f_count, f_trees, f_grown, f_depth, a_kind, a_label, a_fixed, a_first, a_second, a_overFoot, a_roots, a_stack, a_words, a_pairs)) (h0 : c < 24 → h < 2 → post (-3) (f_count, f_trees, f_grown, f_depth, a_kind, a_label, a_fixed, a_first, a_second, a_overFoot, a_roots, a_stack, a_words, a_pairs)) (hb : ∀ e, h = e + 2 → c < 24 → (G (S (e + 1)) 5 ≠ 0 ∧ G (S e) 5 ≠ 0) → post (-3) (f_count, f_trees, f_grown, f_depth, a_kind, a_label, a_fixed, a_first, a_second, a_overFoot, a_roots, a_stack, a_words, a_pairs))
    (k : ∀ e, h = e + 2 → c < 24 → ¬ (G (S (e + 1)) 5 ≠ 0 ∧ G (S e) 5 ≠ 0) → tg_RY (c + 1) g (e + 1) T (tg_put G c (tg_nd 6 a (S e) (S (e + 1)) f (if G (S e) 5 = 0 then G (S (e + 1)) 5 else 1))) (tg_put S e c) R (nI (c + 1), f_trees, f_grown, nI (e + 1), upd a_kind c 6, upd a_label c (nI a), upd a_fixed c (nI f), upd a_first c (nI (S e)), upd a_second c (nI (S (e + 1))), upd a_overFoot c (nI (if G (S e) 5 = 0 then G (S (e + 1)) 5 else 1)), a_roots, upd a_stack e (nI c), a_words, a_pairs) →
      post (nI (e + 1)) (nI (c + 1), f_trees, f_grown, nI (e + 1), upd a_kind c 6, upd a_label c (nI a), upd a_fixed c (nI f), upd a_first c (nI (S e)), upd a_second c (nI (S (e + 1))), upd a_overFoot c (nI (if G (S e) 5 = 0 then G (S (e + 1)) 5 else 1)), a_roots, upd a_stack e (nI c), a_words, a_pairs)) :
    wpY_fork post (f_count, f_trees, f_grown, f_depth, a_kind, a_label, a_fixed, a_first, a_second, a_overFoot, a_roots, a_stack, a_words, a_pairs) (nI a) (nI f) := by
  have c24 := C.2.1
  have h5 := C.2.2.1
  have X1 := X.1
  have X3 := X.2.2.1
  unfold wpY_fork
  dsimp only
  refine tg_y_lab1 ha (br_f (by decide) (br_f (nI_pos (by omega)) (br_t (nI_le (b := 1) (by omega) (by decide)) (tg_br (c = 24) (by rw [X1]; exact nI_eq (b := 24) (by omega) (by decide)) h24 (fun q => tg_br (h < 2) (by rw [X3]; exact nI_ltI (b := 2) (by omega) (by decide)) (h0 (by omega)) (fun q2 => ?_))))))
  obtain ⟨e, rfl⟩ : ∃ e, h = e + 2 := ⟨h - 2, by omega⟩
  have m2 : nI (e + 2) - 2 = nI e := by
    rw [show (2 : Int32) = nI 2 from rfl, pk_sub (by omega)]; exact congrArg nI (by omega)
  have m1 : nI (e + 2) - 1 = nI (e + 1) := nI_pred (e + 1)
  have K : ¬ (G (S (e + 1)) 5 ≠ 0 ∧ G (S e) 5 ≠ 0) → wY_fork_80 post (nI a) (nI f) f_count f_trees f_grown (nI (e + 2)) a_kind a_label a_fixed a_first a_second a_overFoot a_roots a_stack a_words a_pairs := by
    intro nb
    have K := tg_y_fork104 C X (by omega) ha hf (k e rfl (by omega) nb)
    refine nm_r m2 ?_
    rcases (show f = 0 ∨ f = 1 by omega) with rfl | rfl
    · exact br_f (by decide) K
    · exact br_t rfl K
  have se := C.2.2.2.2.2.1 e (by omega)
  have se1 := C.2.2.2.2.2.1 (e + 1) (by omega)
  have gn := C.2.2.2.2.1 _ se.2
  have gn1 := C.2.2.2.2.1 _ se1.2
  have X4 := X.2.2.2.1
  have xn := X.2.2.2.2.1.2.1 _ se.2
  have xn1 := X.2.2.2.2.1.2.1 _ se1.2
  have f1 := gn.2.2.2.2.2.2.1
  have f2 := gn1.2.2.2.2.2.2.1
  have i5 : vp_in (nI e) 5 := vp_in_nI (by omega) (by decide)
  have i51 : vp_in (nI (e + 1)) 5 := vp_in_nI (by omega) (by decide)
  rw [X3, m1, m2, nI_clamp (show e < 2 ^ 31 by omega), nI_clamp (show e + 1 < 2 ^ 31 by omega), X4 e (by omega), X4 (e + 1) (by omega), nI_clamp (show S e < 2 ^ 31 by omega), nI_clamp (show S (e + 1) < 2 ^ 31 by omega), xn.2.2.2.2.2, xn1.2.2.2.2.2]
  refine ⟨i51, vp_in_nI (by omega) (by decide), tg_br (G (S (e + 1)) 5 = 0) (nI_eq (b := 0) (by omega) (by decide)) (fun q => K (fun z => z.1 q)) (fun q => ⟨i5, vp_in_nI (by omega) (by decide), tg_br (G (S e) 5 = 0) (nI_eq (b := 0) (by omega) (by decide)) (fun q => K (fun z => z.2 q)) (fun q3 => ?_)⟩)⟩
  have := hb e rfl (by omega) ⟨q, q3⟩
  rw [X3] at this
  exact this
theorem tg_Y_fork_bad {x y : Int32} (hb : ¬ (tg_ok 3 x ∧ tg_ok 2 y)) {post : Int32 → SY → Prop} (k : post (-1) (f_count, f_trees, f_grown, f_depth, a_kind, a_label, a_fixed, a_first, a_second, a_overFoot, a_roots, a_stack, a_words, a_pairs)) : wpY_fork post (f_count, f_trees, f_grown, f_depth, a_kind, a_label, a_fixed, a_first, a_second, a_overFoot, a_roots, a_stack, a_words, a_pairs) x y := by
  unfold wpY_fork
  dsimp only
  by_cases z : tg_ok 3 x
  · obtain ⟨a, ha, rfl⟩ := z
    refine tg_y_lab1 ha (br_f (by decide) (br_c (fun _ => k) (fun q => br_c (fun q2 => absurd ⟨⟨a, ha, rfl⟩, tg_le1 q q2⟩ hb) (fun _ => k))))
  · exact tg_y_lab0 z (br_t rfl k)
end
end
section
/-! add, discard, clear -/
section
variable {c g h T : Nat} {G : Nat → Nat → Nat} {S R : Nat → Nat}
theorem tg_Core_add (C : tg_Core c g h T G S R) (hT : T < 4) (h1 : h = 1) (k5 : 5 ≤ G (S 0) 0) : tg_Core c c 0 (T + 1) G S (tg_put R T (S 0)) := by
  obtain ⟨C1, C2, C3, C4, C5, C6, C7⟩ := C
  refine ⟨Nat.le_refl c, C2, by omega, by omega, fun v hv => ?_, fun i hi => by omega, fun t ht => ?_⟩
  · obtain ⟨n1, n2, n3, n4, n5⟩ := C5 v hv
    exact ⟨n1, n2, fun q => ⟨(n3 q).1, fun z => by omega⟩, fun q => ⟨(n4 q).1, fun z => by omega⟩, n5⟩
  · by_cases z : t = T
    · rw [z, tg_puts]; exact ⟨(C6 0 (by omega)).2, k5⟩
    · rw [tg_putn z]; have := C7 t (by omega); exact ⟨by omega, this.2⟩
theorem tg_Core_discard (C : tg_Core c g h T G S R) : tg_Core g g 0 T G S R := by
  obtain ⟨C1, C2, C3, C4, C5, C6, C7⟩ := C
  exact ⟨Nat.le_refl g, by omega, by omega, C4, fun v hv => C5 v (by omega), fun i hi => by omega, C7⟩
def tg_sh (g : Nat) (n : Nat → Nat) : Nat → Nat := tg_nd (n 0) (n 1) (n 2 - g) (n 3 - g) (n 4) (n 5)
theorem tg_Core_clear (C : tg_Core c g h T G S R) : tg_Core (c - g) 0 h 0 (fun j => tg_sh g (G (g + j))) (fun i => S i - g) R := by
  obtain ⟨C1, C2, C3, C4, C5, C6, C7⟩ := C
  refine ⟨by omega, by omega, C3, by omega, fun v hv => ?_, fun i hi => ?_, fun t ht => by omega⟩
  · obtain ⟨n1, n2, n3, n4, n5⟩ := C5 (g + v) (by omega)
    refine ⟨n1, n2, fun q => ⟨?_, fun z => Nat.zero_le _⟩, fun q => ⟨?_, fun z => Nat.zero_le _⟩, n5⟩
    · have := n3 q
      show G (g + v) 2 - g < v
      omega
    · have := n4 q
      show G (g + v) 3 - g < v
      omega
  · have := C6 i hi
    dsimp only
    omega
theorem tg_nar {n : Nat} (h : n ≤ 1) : vp_nar .boolean (nI n) = nI n := by
  rcases (show n = 0 ∨ n = 1 by omega) with rfl | rfl <;> rfl
end
section
variable {f_count f_settled f_height f_trees f_charted f_chartLength f_chartBits f_grown : Int32} {a_kind a_mark a_fixed a_first a_second a_footed a_stack a_root : Nat → Int32} {a_words a_pairs a_baseWords a_wrapPairs : Nat → Int64}
variable {c g h T : Nat} {G : Nat → Nat → Nat} {S R : Nat → Nat}
theorem tg_X_add (C : tg_Core c g h T G S R) (X : tg_RX c g h T G S R (f_count, f_settled, f_height, f_trees, f_charted, f_chartLength, f_chartBits, f_grown, a_kind, a_mark, a_fixed, a_first, a_second, a_footed, a_stack, a_root, a_words, a_pairs, a_baseWords, a_wrapPairs)) {post : Int32 → SX → Prop}
    (h4 : T = 4 → post (-2) (f_count, f_settled, f_height, f_trees, f_charted, f_chartLength, f_chartBits, f_grown, a_kind, a_mark, a_fixed, a_first, a_second, a_footed, a_stack, a_root, a_words, a_pairs, a_baseWords, a_wrapPairs)) (hb : T < 4 → ¬ (h = 1 ∧ 5 ≤ G (S 0) 0) → post (-3) (f_count, f_settled, f_height, f_trees, f_charted, f_chartLength, f_chartBits, f_grown, a_kind, a_mark, a_fixed, a_first, a_second, a_footed, a_stack, a_root, a_words, a_pairs, a_baseWords, a_wrapPairs))
    (k : T < 4 → h = 1 → 5 ≤ G (S 0) 0 → tg_RX c c 0 (T + 1) G S (tg_put R T (S 0)) (f_count, f_count, 0, nI (T + 1), 0, f_chartLength, f_chartBits, f_grown, a_kind, a_mark, a_fixed, a_first, a_second, a_footed, a_stack, upd a_root T (nI (S 0)), a_words, a_pairs, a_baseWords, a_wrapPairs) →
      post (nI T) (f_count, f_count, 0, nI (T + 1), 0, f_chartLength, f_chartBits, f_grown, a_kind, a_mark, a_fixed, a_first, a_second, a_footed, a_stack, upd a_root T (nI (S 0)), a_words, a_pairs, a_baseWords, a_wrapPairs)) : wpX_add post (f_count, f_settled, f_height, f_trees, f_charted, f_chartLength, f_chartBits, f_grown, a_kind, a_mark, a_fixed, a_first, a_second, a_footed, a_stack, a_root, a_words, a_pairs, a_baseWords, a_wrapPairs) := by
  have T4 := C.2.2.2.1
  have h5 := C.2.2.1
  have c24 := C.2.1
  obtain ⟨X1, X2, X3, X4, X5, X6⟩ := X
  have XT := X5.1
  refine tg_br (T = 4) (by rw [XT]; exact nI_eq (b := 4) (by omega) (by decide)) h4 (fun q => tg_br (h = 1) (by rw [X3]; exact nI_eq (b := 1) (by omega) (by decide)) (fun q1 => ?_) (fun q1 => hb (by omega) (fun z => q1 z.1)))
  have s0 := C.2.2.2.2.2.1 0 (by omega)
  have gn := C.2.2.2.2.1 _ s0.2
  have xn := X5.2.1 _ s0.2
  have k6 := gn.1
  rw [X4 0 (by omega), nI_clamp (show S 0 < 2 ^ 31 by omega), xn.1, XT, nI_clamp (show T < 2 ^ 31 by omega)]
  refine ⟨vp_in_nI (by omega) (by decide), tg_br (5 ≤ G (S 0) 0) ⟨fun z => ?_, fun z => ?_⟩ (fun q2 => ⟨vp_in_nI (by omega) (by decide), nm_e (nm_r (nI_1 T) ?_)⟩) (fun q2 => ?_)⟩
  · have := (nI_leI (a := 4) (by decide) (by omega)).mp z; omega
  · exact (nI_leI (a := 4) (by decide) (by omega)).mpr (by omega)
  · rw [nI_pred]
    refine k (by omega) q1 q2 ⟨X1, X1, rfl, fun i hi => by omega, ⟨rfl, X5.2.1, fun t ht => ?_⟩, Or.inl rfl⟩
    by_cases z : t = T
    · rw [z, tg_puts, pk_us]
    · rw [tg_putn z, pk_un z]; exact X5.2.2 t (by omega)
  · rw [← XT]
    exact hb (by omega) (fun z => q2 z.2)
theorem tg_X_clear124 (C : tg_Core c g h T G S R) (X1 : f_count = nI c) (X2 : f_settled = nI g) (X3 : f_height = nI h) (X4 : ∀ i, i < h → a_stack i = nI (S i)) {post : SX → Prop}
    (k : ∀ s, (∀ i, i < h → s i = nI (S i - g)) → post (nI (c - g), 0, f_height, 0, 0, f_chartLength, f_chartBits, f_grown, a_kind, a_mark, a_fixed, a_first, a_second, a_footed, s, a_root, a_words, a_pairs, a_baseWords, a_wrapPairs)) : ∃ n, wX_clear_124 post f_count f_settled f_height f_trees f_charted f_chartLength f_chartBits f_grown n 0 a_kind a_mark a_fixed a_first a_second a_footed a_stack a_root a_words a_pairs a_baseWords a_wrapPairs := by
  have h5 := C.2.2.1
  have c24 := C.2.1
  have gc := C.1
  subst X1 X2 X3
  refine pk_loop (fun f i s => wX_clear_124 post (nI c) (nI g) (nI h) f_trees f_charted f_chartLength f_chartBits f_grown f (nI i) a_kind a_mark a_fixed a_first a_second a_footed s a_root a_words a_pairs a_baseWords a_wrapPairs) (fun i s => (∀ j, j < i → s j = nI (S j - g)) ∧ ∀ j, i ≤ j → j < h → s j = nI (S j)) h 0 a_stack (by omega) ⟨fun j hj => by omega, fun j _ hj => X4 j hj⟩ ?_ ?_
  · exact fun f s I => br_t (nI_le (Nat.le_refl h) (by omega)) (nm_r (pk_sub gc) (k s I.1))
  · intro f i s hi ⟨I1, I2⟩ K
    have si := C.2.2.2.2.2.1 i hi
    refine br_f (nI_ge hi (by omega)) ?_
    rw [nI_clamp (show i < 2 ^ 31 by omega), I2 i (Nat.le_refl i) hi, pk_sub si.1]
    refine ⟨vp_in_nI (by omega) (by decide), vp_in_nI (by omega) (by decide), nm_e (nm_r (nI_1 i) (K _ ⟨fun j hj => ?_, fun j hj hjh => ?_⟩))⟩
    · by_cases z : j = i
      · rw [z, pk_us]
      · rw [pk_un z]; exact I1 j (by omega)
    · rw [pk_un (by omega)]; exact I2 j (by omega) hjh
theorem tg_X_clear (C : tg_Core c g h T G S R) (X : tg_RX c g h T G S R (f_count, f_settled, f_height, f_trees, f_charted, f_chartLength, f_chartBits, f_grown, a_kind, a_mark, a_fixed, a_first, a_second, a_footed, a_stack, a_root, a_words, a_pairs, a_baseWords, a_wrapPairs)) {post : SX → Prop}
    (k : ∀ u, tg_RX (c - g) 0 h 0 (fun j => tg_sh g (G (g + j))) (fun i => S i - g) R u → post u) : wpX_clear post (f_count, f_settled, f_height, f_trees, f_charted, f_chartLength, f_chartBits, f_grown, a_kind, a_mark, a_fixed, a_first, a_second, a_footed, a_stack, a_root, a_words, a_pairs, a_baseWords, a_wrapPairs) := by
  have h5 := C.2.2.1
  have c24 := C.2.1
  have gc := C.1
  obtain ⟨X1, X2, X3, X4, X5, X6⟩ := X
  unfold wpX_clear
  dsimp only
  have start : f_settled = nI (g + 0) := X2
  rw [start]
  refine pk_loop (σ := (Nat → Int32) × (Nat → Int32) × (Nat → Int32) × (Nat → Int32) × (Nat → Int32) × (Nat → Int32)) (fun f i s => wX_clear_5 post f_count (nI (g + 0)) f_height f_trees f_charted f_chartLength f_chartBits f_grown f (nI (g + i)) s.1 s.2.1 s.2.2.1 s.2.2.2.1 s.2.2.2.2.1 s.2.2.2.2.2 a_stack a_root a_words a_pairs a_baseWords a_wrapPairs)
    (fun i s => (∀ j, j < i → tg_XN (tg_sh g (G (g + j))) (s.1 j) (s.2.1 j) (s.2.2.1 j) (s.2.2.2.1 j) (s.2.2.2.2.1 j) (s.2.2.2.2.2 j)) ∧ ∀ y, g + i ≤ y → y < c → tg_XN (G y) (s.1 y) (s.2.1 y) (s.2.2.1 y) (s.2.2.2.1 y) (s.2.2.2.2.1 y) (s.2.2.2.2.2 y)) (c - g) 0 (a_kind, a_mark, a_fixed, a_first, a_second, a_footed) (by omega) ⟨fun j hj => by omega, fun y _ hy => X5.2.1 y hy⟩ ?_ ?_
  · intro f ⟨sk, sm, sx, si, ss, sf⟩ ⟨I1, _⟩
    dsimp only at I1 ⊢
    refine br_t ?_ (tg_X_clear124 C X1 rfl X3 X4 (fun s hs => k _ ⟨rfl, rfl, X3, hs, ⟨rfl, I1, fun t ht => by omega⟩, Or.inl rfl⟩))
    rw [X1]; exact nI_le (by omega) (by omega)
  · intro f i ⟨sk, sm, sx, si, ss, sf⟩ hi ⟨I1, I2⟩ K
    dsimp only at I1 I2 K ⊢
    have gn := C.2.2.2.2.1 (g + i) (by omega)
    have xn := I2 (g + i) (Nat.le_refl _) (by omega)
    have k6 := gn.1
    have ix : vp_in (nI (g + i)) 24 := vp_in_nI (by omega) (by decide)
    have ii : vp_in (nI i) 24 := vp_in_nI (by omega) (by decide)
    have clx : (nI (g + i)).toNatClampNeg = g + i := nI_clamp (by omega)
    have cli : (nI i).toNatClampNeg = i := nI_clamp (by omega)
    have sub0 : nI (g + i) - nI (g + 0) = nI i := by
      rw [pk_sub (by omega)]; exact congrArg nI (by omega)
    have eK : upd sk i (sk (g + i)) (g + i) = nI (G (g + i) 0 - 1) := by
      by_cases z : g + i = i
      · rw [z, pk_us]; rw [z] at xn; exact xn.1
      · rw [pk_un z]; exact xn.1
    have cont : ∀ z0, (G (g + i) 0 = 6 → z0 = nI (G (g + i) 3 - g)) → wX_clear_103 post (wX_clear_5 post f_count (nI (g + 0)) f_height f_trees f_charted f_chartLength f_chartBits f_grown f) (nI (g + i)) (nI i) z0 (nI i) f_count (nI (g + 0)) f_height f_trees f_charted f_chartLength f_chartBits f_grown (upd sk i (sk (g + i))) (upd sm i (sm (g + i))) (upd sx i (vp_nar .boolean (sx (g + i)))) (upd si i (si (g + i) - nI (g + 0))) ss sf a_stack a_root a_words a_pairs a_baseWords a_wrapPairs := by
      intro z0 hz0
      unfold wX_clear_103
      rw [cli, clx, xn.2.2.2.2.2, tg_nar gn.2.2.2.2.2.2.1]
      refine ⟨ii, nm_e ⟨ix, ii, nm_e (nm_r (nI_1 (g + i)) (K (upd sk i (sk (g + i)), upd sm i (sm (g + i)), upd sx i (vp_nar .boolean (sx (g + i))), upd si i (si (g + i) - nI (g + 0)), upd ss i z0, upd sf i (nI (G (g + i) 5))) ⟨fun j hj => ?_, fun y hy hyc => ?_⟩))⟩⟩
      · dsimp only
        by_cases z : j = i
        · subst z
          rw [pk_us, pk_us, pk_us, pk_us, pk_us, pk_us]
          refine ⟨xn.1, fun q => xn.2.1 q, fun q => xn.2.2.1 q, fun q => ⟨?_, ?_⟩, hz0, rfl⟩
          · rw [(xn.2.2.2.1 q).1, tg_nar gn.2.2.2.2.1]; rfl
          · have b := (gn.2.2.1 q).2 (by omega)
            rw [(xn.2.2.2.1 q).2]
            exact pk_sub (b := g) b
        · rw [pk_un z, pk_un z, pk_un z, pk_un z, pk_un z, pk_un z]; exact I1 j (by omega)
      · dsimp only
        have z : y ≠ i := by omega
        rw [pk_un z, pk_un z, pk_un z, pk_un z, pk_un z, pk_un z]; exact I2 y (by omega) hyc
    refine br_f ?_ (nm_r sub0 ?_)
    · rw [X1]; exact nI_ge (by omega) (by omega)
    rw [clx, cli]
    refine ⟨ix, ii, nm_e ⟨ix, ii, nm_e ⟨ix, ii, nm_e ⟨ix, ii, nm_e ⟨ix, ?_⟩⟩⟩⟩⟩
    rw [eK]
    refine tg_br (G (g + i) 0 = 6) ⟨fun q => ?_, fun q => ?_⟩ (fun q => ⟨ix, cont _ (fun _ => ?_)⟩) (fun q => cont _ (fun z => absurd z q))
    · have := (nI_eq (b := 5) (by omega) (by decide)).mp q; omega
    · exact (nI_eq (b := 5) (by omega) (by decide)).mpr (by omega)
    · have b := (gn.2.2.2.1 q).2 (by omega)
      rw [xn.2.2.2.2.1 q]
      exact pk_sub (b := g) b
end
section
variable {f_count f_trees f_grown f_depth : Int32} {a_kind a_label a_fixed a_first a_second a_overFoot a_roots a_stack : Nat → Int32} {a_words a_pairs : Nat → Int64}
variable {c g h T : Nat} {G : Nat → Nat → Nat} {S R : Nat → Nat}
theorem tg_Y_add (C : tg_Core c g h T G S R) (X : tg_RY c g h T G S R (f_count, f_trees, f_grown, f_depth, a_kind, a_label, a_fixed, a_first, a_second, a_overFoot, a_roots, a_stack, a_words, a_pairs)) {post : Int32 → SY → Prop}
    (h4 : T = 4 → post (-2) (f_count, f_trees, f_grown, f_depth, a_kind, a_label, a_fixed, a_first, a_second, a_overFoot, a_roots, a_stack, a_words, a_pairs)) (hb : T < 4 → ¬ (h = 1 ∧ 5 ≤ G (S 0) 0) → post (-3) (f_count, f_trees, f_grown, f_depth, a_kind, a_label, a_fixed, a_first, a_second, a_overFoot, a_roots, a_stack, a_words, a_pairs))
    (k : T < 4 → h = 1 → 5 ≤ G (S 0) 0 → ∀ W Q, tg_RY c c 0 (T + 1) G S (tg_put R T (S 0)) (f_count, nI (T + 1), f_count, 0, a_kind, a_label, a_fixed, a_first, a_second, a_overFoot, upd a_roots T (nI (S 0)), a_stack, W, Q) →
      post (nI T) (f_count, nI (T + 1), f_count, 0, a_kind, a_label, a_fixed, a_first, a_second, a_overFoot, upd a_roots T (nI (S 0)), a_stack, W, Q)) : wpY_add post (f_count, f_trees, f_grown, f_depth, a_kind, a_label, a_fixed, a_first, a_second, a_overFoot, a_roots, a_stack, a_words, a_pairs) := by
  have T4 := C.2.2.2.1
  have h5 := C.2.2.1
  have c24 := C.2.1
  obtain ⟨X1, X2, X3, X4, X5, X6⟩ := X
  have XT := X5.1
  refine tg_br (T = 4) (by rw [XT]; exact nI_eq (b := 4) (by omega) (by decide)) h4 (fun q => tg_br (h = 1) (by rw [X3]; exact nI_eq (b := 1) (by omega) (by decide)) (fun q1 => ?_) (fun q1 => hb (by omega) (fun z => q1 z.1)))
  have s0 := C.2.2.2.2.2.1 0 (by omega)
  have gn := C.2.2.2.2.1 _ s0.2
  have xn := X5.2.1 _ s0.2
  have k6 := gn.1
  rw [X4 0 (by omega), nI_clamp (show S 0 < 2 ^ 31 by omega), xn.1, XT, nI_clamp (show T < 2 ^ 31 by omega)]
  refine ⟨vp_in_nI (by omega) (by decide), tg_br (5 ≤ G (S 0) 0) (nI_leI (a := 5) (by decide) (by omega)) (fun q2 => ⟨vp_in_nI (by omega) (by decide), nm_e (nm_r (nI_1 T) ?_)⟩) (fun q2 => ?_)⟩
  · have Y5 : tg_YG c (T + 1) G (tg_put R T (S 0)) (nI (T + 1)) a_kind a_label a_fixed a_first a_second a_overFoot (upd a_roots T (nI (S 0))) := by
      refine ⟨rfl, X5.2.1, fun t ht => ?_⟩
      by_cases z : t = T
      · rw [z, tg_puts, pk_us]
      · rw [tg_putn z, pk_un z]; exact X5.2.2 t (by omega)
    refine tg_y_fill (tg_Core_Gr (tg_Core_add C (by omega) q1 q2)) Y5 X1 (fun W Q hR => ?_)
    dsimp only
    rw [nI_pred]
    exact k (by omega) q1 q2 W Q ⟨X1, X1, rfl, fun i hi => by omega, Y5, hR⟩
  · rw [← XT]
    exact hb (by omega) (fun z => q2 z.2)
theorem tg_Y_clear110 (C : tg_Core c g h T G S R) (X1 : f_count = nI c) (X2 : f_grown = nI g) (X3 : f_depth = nI h) (X4 : ∀ i, i < h → a_stack i = nI (S i)) {post : SY → Prop}
    (k : ∀ s, (∀ i, i < h → s i = nI (S i - g)) → post (nI (c - g), 0, 0, f_depth, a_kind, a_label, a_fixed, a_first, a_second, a_overFoot, a_roots, s, a_words, a_pairs)) : ∃ n, wY_clear_110 post f_count f_trees f_grown f_depth n 0 a_kind a_label a_fixed a_first a_second a_overFoot a_roots a_stack a_words a_pairs := by
  have h5 := C.2.2.1
  have c24 := C.2.1
  have gc := C.1
  subst X1 X2 X3
  refine pk_loop (fun f i s => wY_clear_110 post (nI c) f_trees (nI g) (nI h) f (nI i) a_kind a_label a_fixed a_first a_second a_overFoot a_roots s a_words a_pairs) (fun i s => (∀ j, j < i → s j = nI (S j - g)) ∧ ∀ j, i ≤ j → j < h → s j = nI (S j)) h 0 a_stack (by omega) ⟨fun j hj => by omega, fun j _ hj => X4 j hj⟩ ?_ ?_
  · exact fun f s I => br_t (nI_le (Nat.le_refl h) (by omega)) (nm_r (pk_sub gc) (k s I.1))
  · intro f i s hi ⟨I1, I2⟩ K
    have si := C.2.2.2.2.2.1 i hi
    refine br_f (nI_ge hi (by omega)) ?_
    rw [nI_clamp (show i < 2 ^ 31 by omega), I2 i (Nat.le_refl i) hi, pk_sub si.1]
    refine ⟨vp_in_nI (by omega) (by decide), vp_in_nI (by omega) (by decide), nm_e (nm_r (nI_1 i) (K _ ⟨fun j hj => ?_, fun j hj hjh => ?_⟩))⟩
    · by_cases z : j = i
      · rw [z, pk_us]
      · rw [pk_un z]; exact I1 j (by omega)
    · rw [pk_un (by omega)]; exact I2 j (by omega) hjh
theorem tg_Y_clear (C : tg_Core c g h T G S R) (X : tg_RY c g h T G S R (f_count, f_trees, f_grown, f_depth, a_kind, a_label, a_fixed, a_first, a_second, a_overFoot, a_roots, a_stack, a_words, a_pairs)) {post : SY → Prop}
    (k : ∀ u, tg_RY (c - g) 0 h 0 (fun j => tg_sh g (G (g + j))) (fun i => S i - g) R u → post u) : wpY_clear post (f_count, f_trees, f_grown, f_depth, a_kind, a_label, a_fixed, a_first, a_second, a_overFoot, a_roots, a_stack, a_words, a_pairs) := by
  have h5 := C.2.2.1
  have c24 := C.2.1
  have gc := C.1
  obtain ⟨X1, X2, X3, X4, X5, X6⟩ := X
  unfold wpY_clear
  dsimp only
  have start : f_grown = nI (g + 0) := X2
  rw [start]
  refine pk_loop (σ := (Nat → Int32) × (Nat → Int32) × (Nat → Int32) × (Nat → Int32) × (Nat → Int32) × (Nat → Int32)) (fun f i s => wY_clear_5 post f_count f_trees (nI (g + 0)) f_depth f (nI (g + i)) s.1 s.2.1 s.2.2.1 s.2.2.2.1 s.2.2.2.2.1 s.2.2.2.2.2 a_roots a_stack a_words a_pairs)
    (fun i s => (∀ j, j < i → tg_YN (tg_sh g (G (g + j))) (s.1 j) (s.2.1 j) (s.2.2.1 j) (s.2.2.2.1 j) (s.2.2.2.2.1 j) (s.2.2.2.2.2 j)) ∧ ∀ y, g + i ≤ y → y < c → tg_YN (G y) (s.1 y) (s.2.1 y) (s.2.2.1 y) (s.2.2.2.1 y) (s.2.2.2.2.1 y) (s.2.2.2.2.2 y)) (c - g) 0 (a_kind, a_label, a_fixed, a_first, a_second, a_overFoot) (by omega) ⟨fun j hj => by omega, fun y _ hy => X5.2.1 y hy⟩ ?_ ?_
  · intro f ⟨sk, sm, sx, si, ss, sf⟩ ⟨I1, _⟩
    dsimp only at I1 ⊢
    refine br_t ?_ (tg_Y_clear110 C X1 rfl X3 X4 (fun s hs => k _ ⟨rfl, rfl, X3, hs, ⟨rfl, I1, fun t ht => by omega⟩, ⟨fun v w hv => by omega, fun v k w hv => by omega⟩⟩))
    rw [X1]; exact nI_le (by omega) (by omega)
  · intro f i ⟨sk, sm, sx, si, ss, sf⟩ hi ⟨I1, I2⟩ K
    dsimp only at I1 I2 K ⊢
    have gn := C.2.2.2.2.1 (g + i) (by omega)
    have xn := I2 (g + i) (Nat.le_refl _) (by omega)
    have k6 := gn.1
    have ix : vp_in (nI (g + i)) 24 := vp_in_nI (by omega) (by decide)
    have ii : vp_in (nI i) 24 := vp_in_nI (by omega) (by decide)
    have clx : (nI (g + i)).toNatClampNeg = g + i := nI_clamp (by omega)
    have cli : (nI i).toNatClampNeg = i := nI_clamp (by omega)
    have sub0 : nI (g + i) - nI (g + 0) = nI i := by
      rw [pk_sub (by omega)]; exact congrArg nI (by omega)
    refine br_f ?_ (nm_r sub0 ?_)
    · rw [X1]; exact nI_ge (by omega) (by omega)
    rw [clx, cli, xn.2.2.2.2.2, tg_nar gn.2.2.2.2.2.2.1, xn.2.2.1, tg_nar gn.2.2.2.2.1]
    refine ⟨ix, ii, nm_e ⟨ix, ii, nm_e ⟨ix, ii, nm_e ⟨ix, ii, nm_e ⟨ix, ii, nm_e ⟨ix, ii, nm_e (nm_r (nI_1 (g + i)) (K (upd sk i (sk (g + i)), upd sm i (sm (g + i)), upd sx i (nI (G (g + i) 4)), upd si i (si (g + i) - nI (g + 0)), upd ss i (ss (g + i) - nI (g + 0)), upd sf i (nI (G (g + i) 5))) ⟨fun j hj => ?_, fun y hy hyc => ?_⟩))⟩⟩⟩⟩⟩⟩
    · dsimp only
      by_cases z : j = i
      · subst z
        rw [pk_us, pk_us, pk_us, pk_us, pk_us, pk_us]
        refine ⟨xn.1, fun q => xn.2.1 q, rfl, fun q => ?_, fun q => ?_, rfl⟩
        · have b := (gn.2.2.1 q).2 (by omega)
          rw [xn.2.2.2.1 q]
          exact pk_sub (b := g) b
        · have b := (gn.2.2.2.1 q).2 (by omega)
          rw [xn.2.2.2.2.1 q]
          exact pk_sub (b := g) b
      · rw [pk_un z, pk_un z, pk_un z, pk_un z, pk_un z, pk_un z]; exact I1 j (by omega)
    · dsimp only
      have z : y ≠ i := by omega
      rw [pk_un z, pk_un z, pk_un z, pk_un z, pk_un z, pk_un z]; exact I2 y (by omega) hyc
end
end
section
/-! the questions -/
def tg_okw (x y : Int32) : Prop := ∃ n o, o < 63 ∧ tg_wl o = n ∧ x = nI n ∧ y = nI (o + 1 - 2 ^ n)
theorem tg_p2E : ∀ n, n < 6 → (1 : Int32) <<< (nI n &&& 31) = nI (2 ^ n) := by decide +kernel
theorem tg_p2L : ∀ n, n < 6 → 2 ^ n ≤ 32 := by decide
theorem tg_okw_of {x y : Int32} (h0 : ¬ x < 0) (h5 : ¬ 5 < x) (hy : ¬ y < 0) (hl : y < (1 : Int32) <<< (x &&& 31)) : tg_okw x y := by
  obtain ⟨n, hn, rfl⟩ := nI_of h0
  obtain ⟨b, hb, rfl⟩ := nI_of hy
  have n5 : n < 6 := by
    apply Classical.byContradiction
    intro z
    exact h5 (nI_lt (a := 5) (by omega) hn)
  rw [tg_p2E n n5] at hl
  have p := tg_p2L n n5
  have hb2 := (nI_ltI hb (by omega)).mp hl
  have N := tg_num n n5 b hb2
  exact ⟨n, 2 ^ n - 1 + b, N.1, N.2.1, rfl, congrArg nI N.2.2.symm⟩
theorem tg_w_facts {n o : Nat} (ho : o < 63) (hn : tg_wl o = n) : n ≤ 5 ∧ o + 1 - 2 ^ n < 2 ^ n ∧ 2 ^ n - 1 + (o + 1 - 2 ^ n) = o ∧ 2 ^ n ≤ 32 := by
  subst hn
  exact (by decide +kernel : ∀ o, o < 63 → tg_wl o ≤ 5 ∧ o + 1 - 2 ^ tg_wl o < 2 ^ tg_wl o ∧ 2 ^ tg_wl o - 1 + (o + 1 - 2 ^ tg_wl o) = o ∧ 2 ^ tg_wl o ≤ 32) o ho
section
variable {f_count f_settled f_height f_trees f_charted f_chartLength f_chartBits f_grown : Int32} {a_kind a_mark a_fixed a_first a_second a_footed a_stack a_root : Nat → Int32} {a_words a_pairs a_baseWords a_wrapPairs : Nat → Int64}
theorem tg_x_word1 {post : Int32 → Prop} {x y : Int32} (hb : ¬ tg_okw x y) (h : post 1) : wpX_badWord post (f_count, f_settled, f_height, f_trees, f_charted, f_chartLength, f_chartBits, f_grown, a_kind, a_mark, a_fixed, a_first, a_second, a_footed, a_stack, a_root, a_words, a_pairs, a_baseWords, a_wrapPairs) x y :=
  br_c (fun _ => h) (fun q => br_c (fun _ => h) (fun q2 => br_c (fun q3 => br_c (fun q4 => absurd (tg_okw_of q q2 (Int32.not_lt.mpr q3) q4) hb) (fun _ => h)) (fun _ => h)))
theorem tg_x_word0 {post : Int32 → Prop} {n o : Nat} (ho : o < 63) (hn : tg_wl o = n) (h : post 0) : wpX_badWord post (f_count, f_settled, f_height, f_trees, f_charted, f_chartLength, f_chartBits, f_grown, a_kind, a_mark, a_fixed, a_first, a_second, a_footed, a_stack, a_root, a_words, a_pairs, a_baseWords, a_wrapPairs) (nI n) (nI (o + 1 - 2 ^ n)) := by
  obtain ⟨f1, f2, f3, f4⟩ := tg_w_facts ho hn
  refine br_f (nI_pos (by omega)) (br_f ?_ (br_t (nI_pos' (by omega)) (br_t ?_ h)))
  · intro z
    have := (nI_ltI (a := 5) (by decide) (by omega)).mp z
    omega
  · rw [tg_p2E n (by omega)]; exact nI_lt f2 (by omega)
variable {c g h T : Nat} {G : Nat → Nat → Nat} {S R : Nat → Nat}
theorem tg_RX_chart {n o : Nat} (ho : o < 63) (hn : tg_wl o = n) (X : tg_RX c g h T G S R (f_count, f_settled, f_height, f_trees, f_charted, f_chartLength, f_chartBits, f_grown, a_kind, a_mark, a_fixed, a_first, a_second, a_footed, a_stack, a_root, a_words, a_pairs, a_baseWords, a_wrapPairs)) {m : Int32} {W P B E : Nat → Int64} (hR : tg_XR n o g T G R W P B) :
    tg_RX c g h T G S R (f_count, f_settled, f_height, f_trees, 1, nI n, nI (o + 1 - 2 ^ n), m, a_kind, a_mark, a_fixed, a_first, a_second, a_footed, a_stack, a_root, W, P, B, E) := by
  obtain ⟨X1, X2, X3, X4, X5, X6⟩ := X
  exact ⟨X1, X2, X3, X4, X5, Or.inr ⟨rfl, n, o, ⟨ho, hn, rfl, rfl⟩, hR⟩⟩
theorem tg_X_yields (C : tg_Core c g h T G S R) (X : tg_RX c g h T G S R (f_count, f_settled, f_height, f_trees, f_charted, f_chartLength, f_chartBits, f_grown, a_kind, a_mark, a_fixed, a_first, a_second, a_footed, a_stack, a_root, a_words, a_pairs, a_baseWords, a_wrapPairs)) {a n o : Nat} (ha : a < 3) (ho : o < 63) (hn : tg_wl o = n) {post : Int32 → SX → Prop}
    (k1 : ∀ m W P B E, tg_RX c g h T G S R (f_count, f_settled, f_height, f_trees, 1, nI n, nI (o + 1 - 2 ^ n), m, a_kind, a_mark, a_fixed, a_first, a_second, a_footed, a_stack, a_root, W, P, B, E) → tg_BW (tg_LW g T G R) T G R a o → post 1 (f_count, f_settled, f_height, f_trees, 1, nI n, nI (o + 1 - 2 ^ n), m, a_kind, a_mark, a_fixed, a_first, a_second, a_footed, a_stack, a_root, W, P, B, E))
    (k0 : ∀ m W P B E, tg_RX c g h T G S R (f_count, f_settled, f_height, f_trees, 1, nI n, nI (o + 1 - 2 ^ n), m, a_kind, a_mark, a_fixed, a_first, a_second, a_footed, a_stack, a_root, W, P, B, E) → ¬ tg_BW (tg_LW g T G R) T G R a o → post 0 (f_count, f_settled, f_height, f_trees, 1, nI n, nI (o + 1 - 2 ^ n), m, a_kind, a_mark, a_fixed, a_first, a_second, a_footed, a_stack, a_root, W, P, B, E)) :
    wpX_yields post (f_count, f_settled, f_height, f_trees, f_charted, f_chartLength, f_chartBits, f_grown, a_kind, a_mark, a_fixed, a_first, a_second, a_footed, a_stack, a_root, a_words, a_pairs, a_baseWords, a_wrapPairs) (nI a) (nI n) (nI (o + 1 - 2 ^ n)) := by
  obtain ⟨f1, f2, f3, f4⟩ := tg_w_facts ho hn
  have hG := tg_Core_Gr C
  unfold wpX_yields
  dsimp only
  refine tg_x_bad0 ha (br_t rfl (tg_x_word0 ho hn (br_t rfl (tg_x_chart hG (tg_XM_le C.1 X.2.2.2.2.1) X.2.1 X.2.2.2.2.2 ho hn (fun m W P B E hR => ?_)))))
  have RX := tg_RX_chart ho hn X (m := m) (E := E) hR
  dsimp only
  rw [nI_clamp (show a < 2 ^ 31 by omega)]
  refine ⟨vp_in_nI ha (by decide), tg_br (tg_BW (tg_LW g T G R) T G R a o) ?_ (k1 m W P B E RX) (k0 m W P B E RX)⟩
  rw [tg_ubit _ (by omega)]
  exact hR.2.2 a ha
theorem tg_X_yields_bad {x y z : Int32} (hb : ¬ (tg_ok 3 x ∧ tg_okw y z)) {post : Int32 → SX → Prop} (k : post 0 (f_count, f_settled, f_height, f_trees, f_charted, f_chartLength, f_chartBits, f_grown, a_kind, a_mark, a_fixed, a_first, a_second, a_footed, a_stack, a_root, a_words, a_pairs, a_baseWords, a_wrapPairs)) : wpX_yields post (f_count, f_settled, f_height, f_trees, f_charted, f_chartLength, f_chartBits, f_grown, a_kind, a_mark, a_fixed, a_first, a_second, a_footed, a_stack, a_root, a_words, a_pairs, a_baseWords, a_wrapPairs) x y z := by
  unfold wpX_yields
  dsimp only
  by_cases q : tg_ok 3 x
  · obtain ⟨a, ha, rfl⟩ := q
    exact tg_x_bad0 ha (br_t rfl (tg_x_word1 (fun q => hb ⟨⟨a, ha, rfl⟩, q⟩) (br_f (by decide) k)))
  · exact tg_x_bad1 q (br_f (by decide) k)
theorem tg_x_tree {A B : Prop} {x : Int32} (hT : f_trees = nI T) (hT4 : T ≤ 4) (k0 : ¬ tg_ok T x → A) (k1 : tg_ok T x → B) : (x < 0 → A) ∧ (¬ x < 0 → ((f_trees ≤ x → A) ∧ (¬ f_trees ≤ x → B))) := by
  subst hT
  refine br_c (fun q => k0 (fun ⟨a, ha, e⟩ => ?_)) (fun q => br_c (fun q2 => k0 (fun ⟨a, ha, e⟩ => ?_)) (fun q2 => k1 ?_))
  · rw [e] at q; exact nI_pos (by omega) q
  · rw [e] at q2; exact nI_ge ha (by omega) q2
  · exact tg_ok_of (by omega) q (Int32.not_le.mp q2)
theorem tg_X_has (C : tg_Core c g h T G S R) (X : tg_RX c g h T G S R (f_count, f_settled, f_height, f_trees, f_charted, f_chartLength, f_chartBits, f_grown, a_kind, a_mark, a_fixed, a_first, a_second, a_footed, a_stack, a_root, a_words, a_pairs, a_baseWords, a_wrapPairs)) {t n o : Nat} (ht : t < T) (ho : o < 63) (hn : tg_wl o = n) {post : Int32 → SX → Prop} (kf : G (R t) 5 ≠ 0 → post 0 (f_count, f_settled, f_height, f_trees, f_charted, f_chartLength, f_chartBits, f_grown, a_kind, a_mark, a_fixed, a_first, a_second, a_footed, a_stack, a_root, a_words, a_pairs, a_baseWords, a_wrapPairs))
    (k1 : ∀ u, tg_RX c g h T G S R u → tg_LW g T G R (R t) o → post 1 u) (k0 : ∀ u, tg_RX c g h T G S R u → ¬ tg_LW g T G R (R t) o → post 0 u) :
    wpX_has post (f_count, f_settled, f_height, f_trees, f_charted, f_chartLength, f_chartBits, f_grown, a_kind, a_mark, a_fixed, a_first, a_second, a_footed, a_stack, a_root, a_words, a_pairs, a_baseWords, a_wrapPairs) (nI t) (nI n) (nI (o + 1 - 2 ^ n)) := by
  obtain ⟨f1, f2, f3, f4⟩ := tg_w_facts ho hn
  have hG := tg_Core_Gr C
  have g24 := hG.1
  have T4 := hG.2.1
  obtain ⟨hr, k5⟩ := hG.2.2.2 t ht
  have gn := hG.2.2.1 _ hr
  have M := tg_XM_le C.1 X.2.2.2.2.1
  have xn := M.2.1 _ hr
  refine tg_x_tree M.1 T4 (fun q => absurd ⟨t, ht, rfl⟩ q) (fun _ => tg_x_word0 ho hn (br_t rfl ?_))
  rw [nI_clamp (show t < 2 ^ 31 by omega), M.2.2 t ht]
  refine ⟨vp_in_nI (by omega) (by decide), nm_e ⟨vp_in_nI (by omega) (by decide), ?_⟩⟩
  rw [nI_clamp (show R t < 2 ^ 31 by omega), xn.2.2.2.2.2]
  refine tg_br (G (R t) 5 = 0) (tg_z0 gn.2.2.2.2.2.2.1) (fun _ => tg_x_chart hG M X.2.1 X.2.2.2.2.2 ho hn (fun m W P B E hR => ?_)) kf
  have RX := tg_RX_chart ho hn X (m := m) (E := E) hR
  dsimp only
  refine ⟨vp_in_nI (by omega) (by decide), tg_br (tg_LW g T G R (R t) o) ?_ (k1 _ RX) (k0 _ RX)⟩
  rw [tg_ubit _ (by omega)]
  exact hR.1 _ hr
theorem tg_X_has_bad (C : tg_Core c g h T G S R) (X : tg_RX c g h T G S R (f_count, f_settled, f_height, f_trees, f_charted, f_chartLength, f_chartBits, f_grown, a_kind, a_mark, a_fixed, a_first, a_second, a_footed, a_stack, a_root, a_words, a_pairs, a_baseWords, a_wrapPairs)) {x y z : Int32} (hb : ¬ (tg_ok T x ∧ tg_okw y z)) {post : Int32 → SX → Prop} (k : post 0 (f_count, f_settled, f_height, f_trees, f_charted, f_chartLength, f_chartBits, f_grown, a_kind, a_mark, a_fixed, a_first, a_second, a_footed, a_stack, a_root, a_words, a_pairs, a_baseWords, a_wrapPairs)) : wpX_has post (f_count, f_settled, f_height, f_trees, f_charted, f_chartLength, f_chartBits, f_grown, a_kind, a_mark, a_fixed, a_first, a_second, a_footed, a_stack, a_root, a_words, a_pairs, a_baseWords, a_wrapPairs) x y z :=
  tg_x_tree X.2.2.2.2.1.1 C.2.2.2.1 (fun _ => k) (fun q => tg_x_word1 (fun q2 => hb ⟨q, q2⟩) (br_f (by decide) k))
theorem tg_X_wraps (C : tg_Core c g h T G S R) (X : tg_RX c g h T G S R (f_count, f_settled, f_height, f_trees, f_charted, f_chartLength, f_chartBits, f_grown, a_kind, a_mark, a_fixed, a_first, a_second, a_footed, a_stack, a_root, a_words, a_pairs, a_baseWords, a_wrapPairs)) {t p n o : Nat} (ht : t < T) (hp : p ≤ n) (ho : o < 63) (hn : tg_wl o = n) {post : Int32 → SX → Prop} (kf : G (R t) 5 = 0 → post 0 (f_count, f_settled, f_height, f_trees, f_charted, f_chartLength, f_chartBits, f_grown, a_kind, a_mark, a_fixed, a_first, a_second, a_footed, a_stack, a_root, a_words, a_pairs, a_baseWords, a_wrapPairs))
    (k1 : ∀ u, tg_RX c g h T G S R u → tg_LP g T G R (R t) p o → post 1 u) (k0 : ∀ u, tg_RX c g h T G S R u → ¬ tg_LP g T G R (R t) p o → post 0 u) :
    wpX_wraps post (f_count, f_settled, f_height, f_trees, f_charted, f_chartLength, f_chartBits, f_grown, a_kind, a_mark, a_fixed, a_first, a_second, a_footed, a_stack, a_root, a_words, a_pairs, a_baseWords, a_wrapPairs) (nI t) (nI p) (nI n) (nI (o + 1 - 2 ^ n)) := by
  obtain ⟨f1, f2, f3, f4⟩ := tg_w_facts ho hn
  have hG := tg_Core_Gr C
  have g24 := hG.1
  have T4 := hG.2.1
  obtain ⟨hr, k5⟩ := hG.2.2.2 t ht
  have gn := hG.2.2.1 _ hr
  have M := tg_XM_le C.1 X.2.2.2.2.1
  have xn := M.2.1 _ hr
  refine tg_x_tree M.1 T4 (fun q => absurd ⟨t, ht, rfl⟩ q) (fun _ => tg_x_word0 ho hn (br_t rfl (br_f (nI_pos (by omega)) (br_t (nI_le hp (by omega)) ?_))))
  rw [nI_clamp (show t < 2 ^ 31 by omega), M.2.2 t ht]
  refine ⟨vp_in_nI (by omega) (by decide), nm_e ⟨vp_in_nI (by omega) (by decide), ?_⟩⟩
  rw [nI_clamp (show R t < 2 ^ 31 by omega), xn.2.2.2.2.2]
  refine tg_br (G (R t) 5 = 0) (tg_z0 gn.2.2.2.2.2.2.1) kf (fun _ => tg_x_chart hG M X.2.1 X.2.2.2.2.2 ho hn (fun m W P B E hR => ?_))
  have RX := tg_RX_chart ho hn X (m := m) (E := E) hR
  have e : nI (R t) * 36 + nI p * 6 + nI p = nI (R t * 36 + (p * 6 + p)) := by
    rw [show (36 : Int32) = nI 36 from rfl, show (6 : Int32) = nI 6 from rfl, pk_mul, pk_mul, nI_add, nI_add]
    exact congrArg nI (by omega)
  dsimp only
  rw [e, nI_clamp (show R t * 36 + (p * 6 + p) < 2 ^ 31 by omega)]
  refine ⟨vp_in_nI (by omega) (by decide), tg_br (tg_LP g T G R (R t) p o) ?_ (k1 _ RX) (k0 _ RX)⟩
  rw [tg_ubit _ (by omega)]
  exact hR.2.1 _ _ hr hp
def tg_okp (p y : Int32) : Prop := ¬ p < 0 ∧ p ≤ y
theorem tg_X_wraps_bad (C : tg_Core c g h T G S R) (X : tg_RX c g h T G S R (f_count, f_settled, f_height, f_trees, f_charted, f_chartLength, f_chartBits, f_grown, a_kind, a_mark, a_fixed, a_first, a_second, a_footed, a_stack, a_root, a_words, a_pairs, a_baseWords, a_wrapPairs)) {x p y z : Int32} (hb : ¬ (tg_ok T x ∧ tg_okw y z ∧ tg_okp p y)) {post : Int32 → SX → Prop} (k : post 0 (f_count, f_settled, f_height, f_trees, f_charted, f_chartLength, f_chartBits, f_grown, a_kind, a_mark, a_fixed, a_first, a_second, a_footed, a_stack, a_root, a_words, a_pairs, a_baseWords, a_wrapPairs)) : wpX_wraps post (f_count, f_settled, f_height, f_trees, f_charted, f_chartLength, f_chartBits, f_grown, a_kind, a_mark, a_fixed, a_first, a_second, a_footed, a_stack, a_root, a_words, a_pairs, a_baseWords, a_wrapPairs) x p y z := by
  refine tg_x_tree X.2.2.2.2.1.1 C.2.2.2.1 (fun _ => k) (fun q => ?_)
  by_cases w : tg_okw y z
  · obtain ⟨n, o, ho, hn, rfl, rfl⟩ := id w
    exact tg_x_word0 ho hn (br_t rfl (br_c (fun _ => k) (fun q1 => br_c (fun q2 => absurd ⟨q, w, q1, q2⟩ hb) (fun _ => k))))
  · exact tg_x_word1 w (br_f (by decide) k)
end
section
variable {f_count f_trees f_grown f_depth : Int32} {a_kind a_label a_fixed a_first a_second a_overFoot a_roots a_stack : Nat → Int32} {a_words a_pairs : Nat → Int64}
theorem tg_y_word0 {post : Int32 → Prop} {x y : Int32} (hb : ¬ tg_okw x y) (h : post 0) : wpY_isWord post (f_count, f_trees, f_grown, f_depth, a_kind, a_label, a_fixed, a_first, a_second, a_overFoot, a_roots, a_stack, a_words, a_pairs) x y :=
  br_c (fun _ => h) (fun q => br_c (fun _ => h) (fun q2 => br_c (fun _ => h) (fun q3 => br_c (fun _ => h) (fun q4 => absurd (tg_okw_of q q2 q3 (Int32.not_le.mp q4)) hb))))
theorem tg_y_word1 {post : Int32 → Prop} {n o : Nat} (ho : o < 63) (hn : tg_wl o = n) (h : post 1) : wpY_isWord post (f_count, f_trees, f_grown, f_depth, a_kind, a_label, a_fixed, a_first, a_second, a_overFoot, a_roots, a_stack, a_words, a_pairs) (nI n) (nI (o + 1 - 2 ^ n)) := by
  obtain ⟨f1, f2, f3, f4⟩ := tg_w_facts ho hn
  refine br_f (nI_pos (by omega)) (br_f ?_ (br_f (nI_pos (by omega)) (br_f ?_ h)))
  · intro z
    have := (nI_ltI (a := 5) (by decide) (by omega)).mp z
    omega
  · rw [tg_p2E n (by omega)]; exact nI_ge f2 (by omega)
variable {c g h T : Nat} {G : Nat → Nat → Nat} {S R : Nat → Nat}
theorem tg_numE {n o : Nat} (ho : o < 63) (hn : tg_wl o = n) : (((1 : Int32) <<< (nI n &&& 31)) - 1) + nI (o + 1 - 2 ^ n) = nI o := by
  obtain ⟨f1, f2, f3, f4⟩ := tg_w_facts ho hn
  rw [tg_pwE n (by omega), nI_add, f3]
theorem tg_BW_y (C : tg_Core c g h T G S R) (X : tg_RY c g h T G S R (f_count, f_trees, f_grown, f_depth, a_kind, a_label, a_fixed, a_first, a_second, a_overFoot, a_roots, a_stack, a_words, a_pairs)) {a w : Nat} : tg_BW (tg_yw a_words) T G R a w ↔ tg_BW (tg_LW g T G R) T G R a w := by
  have hG := tg_Core_Gr C
  have Y := X.2.2.2.2.2
  constructor
  · exact fun ⟨t, ht, z1, z2, z3⟩ => ⟨t, ht, z1, z2, (Y.1 _ _ (hG.2.2.2 t ht).1).mp z3⟩
  · exact fun ⟨t, ht, z1, z2, z3⟩ => ⟨t, ht, z1, z2, (Y.1 _ _ (hG.2.2.2 t ht).1).mpr z3⟩
theorem tg_Y_yields (C : tg_Core c g h T G S R) (X : tg_RY c g h T G S R (f_count, f_trees, f_grown, f_depth, a_kind, a_label, a_fixed, a_first, a_second, a_overFoot, a_roots, a_stack, a_words, a_pairs)) {a n o : Nat} (ha : a < 3) (ho : o < 63) (hn : tg_wl o = n) {post : Int32 → Prop}
    (k1 : tg_BW (tg_LW g T G R) T G R a o → post 1) (k0 : ¬ tg_BW (tg_LW g T G R) T G R a o → post 0) : wpY_yields post (f_count, f_trees, f_grown, f_depth, a_kind, a_label, a_fixed, a_first, a_second, a_overFoot, a_roots, a_stack, a_words, a_pairs) (nI a) (nI n) (nI (o + 1 - 2 ^ n)) := by
  have hG := tg_Core_Gr C
  unfold wpY_yields
  dsimp only
  rw [tg_numE ho hn]
  refine tg_y_lab1 ha (br_f (by decide) (tg_y_word1 ho hn (br_f (by decide) (tg_y_baseWords hG (tg_YG_le C.1 X.2.2.2.2.1) ha (fun r hr => tg_y_holds (by omega) (fun q => ?_) (fun q => ?_))))))
  · exact br_f (by decide) (k1 ((tg_BW_y C X).mp ((hr o).mp q)))
  · exact br_t rfl (k0 (fun z => q ((hr o).mpr ((tg_BW_y C X).mpr z))))
theorem tg_Y_yields_bad {x y z : Int32} (hb : ¬ (tg_ok 3 x ∧ tg_okw y z)) {post : Int32 → Prop} (k : post 0) : wpY_yields post (f_count, f_trees, f_grown, f_depth, a_kind, a_label, a_fixed, a_first, a_second, a_overFoot, a_roots, a_stack, a_words, a_pairs) x y z := by
  unfold wpY_yields
  dsimp only
  by_cases q : tg_ok 3 x
  · obtain ⟨a, ha, rfl⟩ := q
    exact tg_y_lab1 ha (br_f (by decide) (tg_y_word0 (fun q => hb ⟨⟨a, ha, rfl⟩, q⟩) (br_t rfl k)))
  · exact tg_y_lab0 q (br_t rfl k)
theorem tg_Y_has (C : tg_Core c g h T G S R) (X : tg_RY c g h T G S R (f_count, f_trees, f_grown, f_depth, a_kind, a_label, a_fixed, a_first, a_second, a_overFoot, a_roots, a_stack, a_words, a_pairs)) {t n o : Nat} (ht : t < T) (ho : o < 63) (hn : tg_wl o = n) {post : Int32 → Prop}
    (k1 : tg_LW g T G R (R t) o → post 1) (k0 : ¬ tg_LW g T G R (R t) o → post 0) : wpY_has post (f_count, f_trees, f_grown, f_depth, a_kind, a_label, a_fixed, a_first, a_second, a_overFoot, a_roots, a_stack, a_words, a_pairs) (nI t) (nI n) (nI (o + 1 - 2 ^ n)) := by
  have hG := tg_Core_Gr C
  have g24 := hG.1
  have T4 := hG.2.1
  obtain ⟨hr, k5⟩ := hG.2.2.2 t ht
  have M := tg_YG_le C.1 X.2.2.2.2.1
  have Y := X.2.2.2.2.2
  refine tg_x_tree M.1 T4 (fun q => absurd ⟨t, ht, rfl⟩ q) (fun _ => tg_y_word1 ho hn (br_f (by decide) ?_))
  rw [nI_clamp (show t < 2 ^ 31 by omega), M.2.2 t ht, nI_clamp (show R t < 2 ^ 31 by omega), tg_numE ho hn]
  refine ⟨vp_in_nI (by omega) (by decide), vp_in_nI (by omega) (by decide), tg_y_holds (by omega) (fun q => ?_) (fun q => ?_)⟩
  · exact br_f (by decide) (k1 ((Y.1 _ _ hr).mp q))
  · exact br_t rfl (k0 (fun z => q ((Y.1 _ _ hr).mpr z)))
theorem tg_Y_has_bad (C : tg_Core c g h T G S R) (X : tg_RY c g h T G S R (f_count, f_trees, f_grown, f_depth, a_kind, a_label, a_fixed, a_first, a_second, a_overFoot, a_roots, a_stack, a_words, a_pairs)) {x y z : Int32} (hb : ¬ (tg_ok T x ∧ tg_okw y z)) {post : Int32 → Prop} (k : post 0) : wpY_has post (f_count, f_trees, f_grown, f_depth, a_kind, a_label, a_fixed, a_first, a_second, a_overFoot, a_roots, a_stack, a_words, a_pairs) x y z :=
  tg_x_tree X.2.2.2.2.1.1 C.2.2.2.1 (fun _ => k) (fun q => tg_y_word0 (fun q2 => hb ⟨q, q2⟩) (br_t rfl k))
theorem tg_Y_wraps (C : tg_Core c g h T G S R) (X : tg_RY c g h T G S R (f_count, f_trees, f_grown, f_depth, a_kind, a_label, a_fixed, a_first, a_second, a_overFoot, a_roots, a_stack, a_words, a_pairs)) {t p n o : Nat} (ht : t < T) (hp : p ≤ n) (ho : o < 63) (hn : tg_wl o = n) {post : Int32 → Prop}
    (k1 : tg_LP g T G R (R t) p o → post 1) (k0 : ¬ tg_LP g T G R (R t) p o → post 0) : wpY_wraps post (f_count, f_trees, f_grown, f_depth, a_kind, a_label, a_fixed, a_first, a_second, a_overFoot, a_roots, a_stack, a_words, a_pairs) (nI t) (nI p) (nI n) (nI (o + 1 - 2 ^ n)) := by
  obtain ⟨f1, f2, f3, f4⟩ := tg_w_facts ho hn
  have hG := tg_Core_Gr C
  have g24 := hG.1
  have T4 := hG.2.1
  obtain ⟨hr, k5⟩ := hG.2.2.2 t ht
  have M := tg_YG_le C.1 X.2.2.2.2.1
  have Y := X.2.2.2.2.2
  refine tg_x_tree M.1 T4 (fun q => absurd ⟨t, ht, rfl⟩ q) (fun _ => tg_y_word1 ho hn (br_f (by decide) (br_f (nI_pos (by omega)) (br_f (nI_nlt hp (by omega)) ?_))))
  have e : 6 * nI (R t) + nI p = nI (6 * R t + p) := by
    rw [show (6 : Int32) = nI 6 from rfl, pk_mul, nI_add]
  rw [nI_clamp (show t < 2 ^ 31 by omega), M.2.2 t ht, e, nI_clamp (show 6 * R t + p < 2 ^ 31 by omega), tg_numE ho hn]
  refine ⟨vp_in_nI (by omega) (by decide), vp_in_nI (by omega) (by decide), tg_y_holds (by omega) (fun q => ?_) (fun q => ?_)⟩
  · exact br_f (by decide) (k1 ((Y.2 _ _ _ hr (by omega)).mp q))
  · exact br_t rfl (k0 (fun z => q ((Y.2 _ _ _ hr (by omega)).mpr z)))
theorem tg_Y_wraps_bad (C : tg_Core c g h T G S R) (X : tg_RY c g h T G S R (f_count, f_trees, f_grown, f_depth, a_kind, a_label, a_fixed, a_first, a_second, a_overFoot, a_roots, a_stack, a_words, a_pairs)) {x p y z : Int32} (hb : ¬ (tg_ok T x ∧ tg_okw y z ∧ tg_okp p y)) {post : Int32 → Prop} (k : post 0) : wpY_wraps post (f_count, f_trees, f_grown, f_depth, a_kind, a_label, a_fixed, a_first, a_second, a_overFoot, a_roots, a_stack, a_words, a_pairs) x p y z := by
  refine tg_x_tree X.2.2.2.2.1.1 C.2.2.2.1 (fun _ => k) (fun q => ?_)
  by_cases w : tg_okw y z
  · obtain ⟨n, o, ho, hn, rfl, rfl⟩ := id w
    exact tg_y_word1 ho hn (br_f (by decide) (br_c (fun _ => k) (fun q1 => br_c (fun _ => k) (fun q2 => absurd ⟨q, w, q1, Int32.not_lt.mp q2⟩ hb))))
  · exact tg_y_word0 w (br_t rfl k)
end
end
section
/-! lengths -/
def tg_ac (e : Nat → Nat) : Nat → Nat
  | 0 => 0
  | l + 1 => tg_ac e l + e l * 2 ^ l
theorem tg_ac_lt {e : Nat → Nat} (he : ∀ i, e i ≤ 1) : ∀ l, tg_ac e l < 2 ^ l := by
  intro l
  induction l with
  | zero => exact Nat.zero_lt_one
  | succ l ih =>
    show tg_ac e l + e l * 2 ^ l < 2 ^ (l + 1)
    have := Nat.mul_le_mul_right (2 ^ l) (he l)
    rw [Nat.pow_succ]
    omega
theorem tg_acE : ∀ l, l < 4 → ∀ A, A < 2 ^ l → ∀ d, d < 2 → nI (A + d * 2 ^ l) ||| ((1 : Int32) <<< (nI l &&& 31)) = nI (A + 1 * 2 ^ l) := by decide +kernel
def tg_El (g T : Nat) (G : Nat → Nat → Nat) (R : Nat → Nat) (a l : Nat) : Prop := ∃ b, b < 2 ^ l ∧ tg_BW (tg_LW g T G R) T G R a (2 ^ l - 1 + b)
section
variable {f_count f_settled f_height f_trees f_charted f_chartLength f_chartBits f_grown : Int32} {a_kind a_mark a_fixed a_first a_second a_footed a_stack a_root : Nat → Int32} {a_words a_pairs a_baseWords a_wrapPairs : Nat → Int64}
variable {c g h T : Nat} {G : Nat → Nat → Nat} {S R : Nat → Nat}
theorem tg_X_lengths (C : tg_Core c g h T G S R) (X : tg_RX c g h T G S R (f_count, f_settled, f_height, f_trees, f_charted, f_chartLength, f_chartBits, f_grown, a_kind, a_mark, a_fixed, a_first, a_second, a_footed, a_stack, a_root, a_words, a_pairs, a_baseWords, a_wrapPairs)) {a : Nat} (ha : a < 3) {e : Nat → Nat} (he : ∀ i, e i ≤ 1 ∧ (e i = 1 ↔ tg_El g T G R a i)) {post : Int32 → SX → Prop}
    (k : ∀ u, tg_RX c g h T G S R u → post (nI (tg_ac e 4)) u) : wpX_lengths post (f_count, f_settled, f_height, f_trees, f_charted, f_chartLength, f_chartBits, f_grown, a_kind, a_mark, a_fixed, a_first, a_second, a_footed, a_stack, a_root, a_words, a_pairs, a_baseWords, a_wrapPairs) (nI a) := by
  unfold wpX_lengths
  dsimp only
  refine tg_x_bad0 ha (br_t rfl ?_)
  refine pk_loop (σ := Int32 × Int32 × Int32 × Int32 × Int32 × (Nat → Int64) × (Nat → Int64) × (Nat → Int64) × (Nat → Int64)) (fun f l s => wX_lengths_14 post (nI a) f s.1 (nI l) f_count f_settled f_height f_trees s.2.1 s.2.2.1 s.2.2.2.1 s.2.2.2.2.1 a_kind a_mark a_fixed a_first a_second a_footed a_stack a_root s.2.2.2.2.2.1 s.2.2.2.2.2.2.1 s.2.2.2.2.2.2.2.1 s.2.2.2.2.2.2.2.2)
    (fun l s => s.1 = nI (tg_ac e l) ∧ tg_RX c g h T G S R (f_count, f_settled, f_height, f_trees, s.2.1, s.2.2.1, s.2.2.2.1, s.2.2.2.2.1, a_kind, a_mark, a_fixed, a_first, a_second, a_footed, a_stack, a_root, s.2.2.2.2.2.1, s.2.2.2.2.2.2.1, s.2.2.2.2.2.2.2.1, s.2.2.2.2.2.2.2.2)) 4 0 (0, f_charted, f_chartLength, f_chartBits, f_grown, a_words, a_pairs, a_baseWords, a_wrapPairs) (by omega) ⟨rfl, X⟩ ?_ ?_
  · intro f ⟨x, q1, q2, q3, q4, q5, q6, q7, q8⟩ ⟨I1, I2⟩
    dsimp only at I1 I2 ⊢
    subst I1
    exact br_t (nI_le (Nat.le_refl 4) (by decide)) (k _ I2)
  · intro f l ⟨x, q1, q2, q3, q4, q5, q6, q7, q8⟩ hl ⟨I1, I2⟩ K
    dsimp only at I1 I2 K ⊢
    subst I1
    have A := tg_ac_lt (fun i => (he i).1) l
    have p := tg_p2L l (by omega)
    refine br_f (nI_ge (b := 4) hl (by decide)) (pk_loop (σ := Int32 × Int32 × Int32 × Int32 × Int32 × (Nat → Int64) × (Nat → Int64) × (Nat → Int64) × (Nat → Int64)) (fun f' b s => wX_lengths_22 post (wX_lengths_14 post (nI a) f) (nI a) (nI l) f' s.1 (nI b) f_count f_settled f_height f_trees s.2.1 s.2.2.1 s.2.2.2.1 s.2.2.2.2.1 a_kind a_mark a_fixed a_first a_second a_footed a_stack a_root s.2.2.2.2.2.1 s.2.2.2.2.2.2.1 s.2.2.2.2.2.2.2.1 s.2.2.2.2.2.2.2.2)
      (fun b s => (∃ d, d ≤ 1 ∧ s.1 = nI (tg_ac e l + d * 2 ^ l) ∧ (d = 1 ↔ ∃ b', b' < b ∧ tg_BW (tg_LW g T G R) T G R a (2 ^ l - 1 + b'))) ∧ tg_RX c g h T G S R (f_count, f_settled, f_height, f_trees, s.2.1, s.2.2.1, s.2.2.2.1, s.2.2.2.2.1, a_kind, a_mark, a_fixed, a_first, a_second, a_footed, a_stack, a_root, s.2.2.2.2.2.1, s.2.2.2.2.2.2.1, s.2.2.2.2.2.2.2.1, s.2.2.2.2.2.2.2.2)) (2 ^ l) 0 (nI (tg_ac e l), q1, q2, q3, q4, q5, q6, q7, q8) (by omega) ⟨⟨0, by omega, by rw [Nat.zero_mul, Nat.add_zero], ⟨fun z => by omega, fun ⟨b', z, _⟩ => by omega⟩⟩, I2⟩ ?_ ?_)
    · intro f' ⟨x, q1, q2, q3, q4, q5, q6, q7, q8⟩ ⟨⟨d, hd, e1, hd1⟩, I2⟩
      dsimp only at e1 I2 ⊢
      subst e1
      have ed : d = e l := by
        have := he l
        have z : e l = 1 ↔ d = 1 := this.2.trans hd1.symm
        omega
      subst ed
      refine br_t ?_ (nm_r (nI_1 l) (K (_, q1, q2, q3, q4, q5, q6, q7, q8) ⟨rfl, I2⟩))
      rw [tg_p2E l (by omega)]; exact nI_le (Nat.le_refl _) (by omega)
    · intro f' b ⟨x, q1, q2, q3, q4, q5, q6, q7, q8⟩ hb ⟨⟨d, hd, e1, hd1⟩, I2⟩ K'
      dsimp only at e1 I2 K' ⊢
      subst e1
      have N := tg_num l (by omega) b hb
      refine br_f ?_ ?_
      · rw [tg_p2E l (by omega)]; exact nI_ge hb (by omega)
      · have Q := tg_X_yields C I2 ha N.1 N.2.1 (post := fun r_26 u => match u with | (f_count, f_settled, f_height, f_trees, f_charted, f_chartLength, f_chartBits, f_grown, a_kind, a_mark, a_fixed, a_first, a_second, a_footed, a_stack, a_root, a_words, a_pairs, a_baseWords, a_wrapPairs) => (((r_26 = 0 → (∀ x4_48 : Int32, x4_48 = nI b + 1 → (wX_lengths_22 post (wX_lengths_14 post (nI a) f) (nI a) (nI l) f' (nI (tg_ac e l + d * 2 ^ l)) x4_48 f_count f_settled f_height f_trees f_charted f_chartLength f_chartBits f_grown a_kind a_mark a_fixed a_first a_second a_footed a_stack a_root a_words a_pairs a_baseWords a_wrapPairs))) ∧ (¬ r_26 = 0 → (∀ x2_49 : Int32, x2_49 = nI (tg_ac e l + d * 2 ^ l) ||| ((1 : Int32) <<< (nI l &&& 31)) → (∀ x4_50 : Int32, x4_50 = nI b + 1 → (wX_lengths_22 post (wX_lengths_14 post (nI a) f) (nI a) (nI l) f' x2_49 x4_50 f_count f_settled f_height f_trees f_charted f_chartLength f_chartBits f_grown a_kind a_mark a_fixed a_first a_second a_footed a_stack a_root a_words a_pairs a_baseWords a_wrapPairs)))))))
          (fun m W P B E hX hB => ?_) (fun m W P B E hX hB => ?_)
        · rw [N.2.2] at Q
          exact Q
        · refine br_f (by decide) (nm_r (tg_acE l hl _ A d (by omega)) (nm_r (nI_1 b) (K' (_, _, _, _, _, _, _, _, _) ⟨⟨1, by omega, rfl, ⟨fun _ => ⟨b, by omega, hB⟩, fun _ => rfl⟩⟩, hX⟩)))
        · refine br_t rfl (nm_r (nI_1 b) (K' (_, _, _, _, _, _, _, _, _) ⟨⟨d, hd, rfl, hd1.trans ⟨fun ⟨b', z1, z2⟩ => ⟨b', by omega, z2⟩, fun ⟨b', z1, z2⟩ => ?_⟩⟩, hX⟩))
          by_cases z : b' = b
          · subst z; exact absurd z2 hB
          · exact ⟨b', by omega, z2⟩
theorem tg_X_lengths_bad {x : Int32} (hb : ¬ tg_ok 3 x) {post : Int32 → SX → Prop} (k : post (-1) (f_count, f_settled, f_height, f_trees, f_charted, f_chartLength, f_chartBits, f_grown, a_kind, a_mark, a_fixed, a_first, a_second, a_footed, a_stack, a_root, a_words, a_pairs, a_baseWords, a_wrapPairs)) : wpX_lengths post (f_count, f_settled, f_height, f_trees, f_charted, f_chartLength, f_chartBits, f_grown, a_kind, a_mark, a_fixed, a_first, a_second, a_footed, a_stack, a_root, a_words, a_pairs, a_baseWords, a_wrapPairs) x := by
  unfold wpX_lengths
  dsimp only
  exact tg_x_bad1 hb (br_f (by decide) k)
end
theorem tg_mask0 {x M : Int64} : x &&& M = 0 ↔ ∀ i, tg_b M i = true → ¬ tg_b x i = true := by
  constructor
  · intro h i hM hx
    have : tg_b (x &&& M) i = true := by rw [tg_and, hM, hx]; rfl
    rw [h] at this
    exact tg_0n this
  · intro h
    refine tg_ext (fun i _ => ?_)
    rw [tg_and, tg_0]
    cases hM : tg_b M i with
    | false => rw [Bool.and_false]
    | true =>
      have := h i hM
      rw [Bool.and_true]
      exact ts_nt this
theorem tg_M1 : ∀ i, i < 64 → (tg_b 6 i = true ↔ (1 ≤ i ∧ i < 3)) := by decide +kernel
theorem tg_M2 : ∀ i, i < 64 → (tg_b 120 i = true ↔ (3 ≤ i ∧ i < 7)) := by decide +kernel
theorem tg_M3 : ∀ i, i < 64 → (tg_b 32640 i = true ↔ (7 ≤ i ∧ i < 15)) := by decide +kernel
section
variable {f_count f_trees f_grown f_depth : Int32} {a_kind a_label a_fixed a_first a_second a_overFoot a_roots a_stack : Nat → Int32} {a_words a_pairs : Nat → Int64}
variable {c g h T : Nat} {G : Nat → Nat → Nat} {S R : Nat → Nat}
theorem tg_maskE {r M : Int64} {e lo n : Nat} {P : Nat → Prop} (hM : ∀ i, i < 64 → (tg_b M i = true ↔ (lo ≤ i ∧ i < lo + n))) (hn : lo + n ≤ 64) (hr : ∀ w, tg_b r w = true ↔ P w) (he : e ≤ 1) (hE : e = 1 ↔ ∃ b, b < n ∧ P (lo + b)) : r &&& M = 0 ↔ e = 0 := by
  rw [tg_mask0]
  constructor
  · intro h
    apply Classical.byContradiction
    intro z
    obtain ⟨b, hb, p⟩ := hE.mp (by omega)
    exact h (lo + b) ((hM _ (by omega)).mpr ⟨by omega, by omega⟩) ((hr _).mpr p)
  · intro h i hi hx
    have i64 := tg_lt hi
    have := (hM i i64).mp hi
    have : e = 1 := hE.mpr ⟨i - lo, by omega, by rw [show lo + (i - lo) = i by omega]; exact (hr i).mp hx⟩
    omega
theorem tg_Y_lengths (C : tg_Core c g h T G S R) (X : tg_RY c g h T G S R (f_count, f_trees, f_grown, f_depth, a_kind, a_label, a_fixed, a_first, a_second, a_overFoot, a_roots, a_stack, a_words, a_pairs)) {a : Nat} (ha : a < 3) {e : Nat → Nat} (he : ∀ i, e i ≤ 1 ∧ (e i = 1 ↔ tg_El g T G R a i)) {post : Int32 → Prop}
    (k : post (nI (tg_ac e 4))) : wpY_lengths post (f_count, f_trees, f_grown, f_depth, a_kind, a_label, a_fixed, a_first, a_second, a_overFoot, a_roots, a_stack, a_words, a_pairs) (nI a) := by
  have hG := tg_Core_Gr C
  unfold wpY_lengths
  dsimp only
  refine tg_y_lab1 ha (br_f (by decide) (tg_y_baseWords hG (tg_YG_le C.1 X.2.2.2.2.1) ha (fun r hr => ?_)))
  have hr' : ∀ w, tg_b r w = true ↔ tg_BW (tg_LW g T G R) T G R a w := fun w => (hr w).trans (tg_BW_y C X)
  have e1 : r &&& 6 = 0 ↔ e 1 = 0 := tg_maskE (lo := 1) (n := 2) tg_M1 (by omega) hr' (he 1).1 (he 1).2
  have e2 : r &&& 120 = 0 ↔ e 2 = 0 := tg_maskE (lo := 3) (n := 4) tg_M2 (by omega) hr' (he 2).1 (he 2).2
  have e3 : r &&& 32640 = 0 ↔ e 3 = 0 := tg_maskE (lo := 7) (n := 8) tg_M3 (by omega) hr' (he 3).1 (he 3).2
  have e0 : (r &&& 1).toInt32 = nI (e 0) := by
    have e00 : r &&& 1 = 0 ↔ e 0 = 0 := tg_maskE (lo := 0) (n := 1) (fun i _ => by rw [tg_1i, decide_eq_true_eq]; omega) (by omega) hr' (he 0).1 (he 0).2
    by_cases z : e 0 = 0
    · rw [e00.mpr z, z]; rfl
    · have z1 : e 0 = 1 := by have := (he 0).1; omega
      have : r &&& 1 = 1 := by
        rw [tg_and1]
        apply Classical.byContradiction
        intro q
        refine z (e00.mp (tg_mask0.mpr (fun i hi hx => ?_)))
        rw [tg_1i, decide_eq_true_eq] at hi
        subst hi
        exact q hx
      rw [this, z1]; rfl
  have v : ∀ b1 b2 b3, e 1 = b1 → e 2 = b2 → e 3 = b3 → nI (e 0) + nI (2 * b1) + nI (4 * b2) + nI (8 * b3) = nI (tg_ac e 4) := by
    intro b1 b2 b3 h1 h2 h3
    rw [nI_add, nI_add, nI_add]
    refine congrArg nI ?_
    show _ = 0 + e 0 * 2 ^ 0 + e 1 * 2 ^ 1 + e 2 * 2 ^ 2 + e 3 * 2 ^ 3
    omega
  have o1 := (he 1).1
  have o2 := (he 2).1
  have o3 := (he 3).1
  rw [e0]
  have s3 : ∀ b1 b2 z0 z1, e 1 = b1 → e 2 = b2 → z1 + z0 = nI (e 0) + nI (2 * b1) + nI (4 * b2) → wY_lengths_51 post r z0 z1 f_count f_trees f_grown f_depth a_kind a_label a_fixed a_first a_second a_overFoot a_roots a_stack a_words a_pairs := by
    intro b1 b2 z0 z1 h1 h2 hz
    refine tg_br _ e3 (fun q => ?_) (fun q => ?_)
    · rw [hz]
      have := v b1 b2 0 h1 h2 q
      exact this ▸ k
    · rw [hz]
      have := v b1 b2 1 h1 h2 (by omega)
      exact this ▸ k
  have s2 : ∀ b1 z0 z1, e 1 = b1 → z1 + z0 = nI (e 0) + nI (2 * b1) → wY_lengths_35 post r z0 z1 f_count f_trees f_grown f_depth a_kind a_label a_fixed a_first a_second a_overFoot a_roots a_stack a_words a_pairs := by
    intro b1 z0 z1 h1 hz
    refine tg_br _ e2 (fun q => s3 b1 0 _ _ h1 q ?_) (fun q => s3 b1 1 _ _ h1 (by omega) ?_)
    · rw [hz]; rfl
    · rw [hz]; rfl
  refine tg_br _ e1 (fun q => s2 0 _ _ q rfl) (fun q => s2 1 _ _ (by omega) rfl)
theorem tg_Y_lengths_bad {x : Int32} (hb : ¬ tg_ok 3 x) {post : Int32 → Prop} (k : post (-1)) : wpY_lengths post (f_count, f_trees, f_grown, f_depth, a_kind, a_label, a_fixed, a_first, a_second, a_overFoot, a_roots, a_stack, a_words, a_pairs) x := by
  unfold wpY_lengths
  dsimp only
  exact tg_y_lab0 hb (br_t rfl k)
end
end
section
/-! what is owed -/
theorem i_up {k : Nat} {u : SX} {v : SY} (h : i_Rel k u v) : i_Rel (k + 5) u v := h
theorem i_vc0 : wpX_init (fun u => wpY_init (fun v => i_Rel 0 u v)) :=
  ⟨0, 0, 0, 0, fun _ _ => 0, fun _ => 0, fun _ => 0,
    ⟨Nat.le_refl 0, by omega, by omega, by omega, fun v hv => by omega, fun i hi => by omega, fun t ht => by omega⟩,
    ⟨rfl, rfl, rfl, fun i hi => by omega, ⟨rfl, fun v hv => by omega, fun t ht => by omega⟩, Or.inl rfl⟩,
    ⟨rfl, rfl, rfl, fun i hi => by omega, ⟨rfl, fun v hv => by omega, fun t ht => by omega⟩, ⟨fun v w hv => by omega, fun v k w hv => by omega⟩⟩⟩
theorem tg_GN_leaf {g c k l f : Nat} (hk : k < 5) (hl : l < 3) (hf : f ≤ 1) (h4 : f = 1 ↔ k = 4) : tg_GN g c (tg_nd k l 0 0 1 f) :=
  ⟨by show k ≤ 6; omega, fun _ => hl, fun q => absurd (show 5 ≤ k from q) (by omega), fun q => absurd (show k = 6 from q) (by omega), Nat.le_refl 1, fun _ => rfl, hf, fun q => by show 4 ≤ k; have := h4.mp q; omega, fun q => h4.mpr q⟩
theorem i_vc_letter {k : Nat} {u : SX} {v : SY} (I : i_Rel k u v) (hk : k + 5 ≤ 2560) (v1 : Int32) : wpX_letter (fun r u' => wpY_letter (fun r' v' => r' = r ∧ i_Rel (k + 5) u' v') v v1) u v1 := by
  obtain ⟨c, g, h, T, G, S, R, C, X, Y⟩ := I
  obtain ⟨f_count, f_settled, f_height, f_trees, f_charted, f_chartLength, f_chartBits, f_grown, a_kind, a_mark, a_fixed, a_first, a_second, a_footed, a_stack, a_root, a_words, a_pairs, a_baseWords, a_wrapPairs⟩ := u
  obtain ⟨yf_count, yf_trees, yf_grown, yf_depth, ya_kind, ya_label, ya_fixed, ya_first, ya_second, ya_overFoot, ya_roots, ya_stack, ya_words, ya_pairs⟩ := v
  by_cases h0 : v1 < 0
  · exact br_t h0 (br_t h0 ⟨rfl, c, g, h, T, G, S, R, C, X, Y⟩)
  by_cases h1 : v1 ≤ 1
  · refine br_f h0 (br_t h1 ?_)
    obtain ⟨j, hj, rfl⟩ := tg_le1 h0 h1
    have jj : j = 0 ∨ j = 1 := by omega
    have NX : tg_XN (tg_nd j 0 0 0 1 0) 0 (nI j) 0 (-1) (-1) (nI (tg_nd j 0 0 0 1 0 5)) := ⟨by rcases jj with rfl | rfl <;> rfl, fun _ => rfl, fun q => absurd (show j = 3 ∨ 5 ≤ j from q) (by omega), fun q => absurd (show 5 ≤ j from q) (by omega), fun q => absurd (show j = 6 from q) (by omega), rfl⟩
    have NY : tg_YN (tg_nd j 0 0 0 1 0) (nI j) 0 1 0 0 (nI (tg_nd j 0 0 0 1 0 5)) := ⟨rfl, fun q => absurd (show j = 3 ∨ 5 ≤ j from q) (by omega), rfl, fun q => absurd (show 5 ≤ j from q) (by omega), fun q => absurd (show j = 6 from q) (by omega), rfl⟩
    have y4 : nI j ≤ 4 := nI_le (b := 4) (by omega) (by decide)
    have y6 : nI j ≠ 6 := fun q => by have := (nI_eq (b := 6) (by omega) (by decide)).mp q; omega
    have y44 : nI j ≠ 4 := fun q => by have := (nI_eq (b := 4) (by omega) (by decide)).mp q; omega
    refine tg_x_leaf C X NX (Nat.zero_le 1) ⟨fun q => absurd (show 0 = 1 from q) (by decide), fun q => absurd q (by decide)⟩ (fun full => br_f h0 (br_t h1 ?_)) (fun c24 h5 X' => br_f h0 (br_t h1 ?_))
    · exact tg_y_leaf C Y NY y4 y6 (Nat.zero_le 1) ⟨fun q => absurd (show 0 = 1 from q) (by decide), fun q => absurd q y44⟩ (fun _ => ⟨rfl, c, g, h, T, G, S, R, C, X, Y⟩) (fun c24 h5 => by omega)
    · exact tg_y_leaf C Y NY y4 y6 (Nat.zero_le 1) ⟨fun q => absurd (show 0 = 1 from q) (by decide), fun q => absurd q y44⟩ (fun full => by omega) (fun _ _ Y' => ⟨rfl, _, _, _, _, _, _, _, tg_Core_push C c24 (Nat.le_refl h) h5 (tg_GN_leaf (by omega) (by omega) (by omega) (by omega)), X', Y'⟩)
  · exact br_f h0 (br_f h1 (br_f h0 (br_f h1 ⟨rfl, c, g, h, T, G, S, R, C, X, Y⟩)))
theorem i_vc_empty {k : Nat} {u : SX} {v : SY} (I : i_Rel k u v) (hk : k + 5 ≤ 2560) : wpX_empty (fun r u' => wpY_empty (fun r' v' => r' = r ∧ i_Rel (k + 5) u' v') v) u := by
  obtain ⟨c, g, h, T, G, S, R, C, X, Y⟩ := I
  obtain ⟨f_count, f_settled, f_height, f_trees, f_charted, f_chartLength, f_chartBits, f_grown, a_kind, a_mark, a_fixed, a_first, a_second, a_footed, a_stack, a_root, a_words, a_pairs, a_baseWords, a_wrapPairs⟩ := u
  obtain ⟨yf_count, yf_trees, yf_grown, yf_depth, ya_kind, ya_label, ya_fixed, ya_first, ya_second, ya_overFoot, ya_roots, ya_stack, ya_words, ya_pairs⟩ := v
  have NX : tg_XN (tg_nd 2 0 0 0 1 0) 1 0 0 (-1) (-1) (nI (tg_nd 2 0 0 0 1 0 5)) := ⟨rfl, fun q => absurd q (by decide), fun q => absurd q (by decide), fun q => absurd q (by decide), fun q => absurd q (by decide), rfl⟩
  have NY : tg_YN (tg_nd 2 0 0 0 1 0) 2 0 1 0 0 (nI (tg_nd 2 0 0 0 1 0 5)) := ⟨rfl, fun q => absurd q (by decide), rfl, fun q => absurd q (by decide), fun q => absurd q (by decide), rfl⟩
  unfold wpX_empty wpY_empty
  dsimp only
  refine tg_x_leaf C X NX (Nat.zero_le 1) ⟨fun q => absurd q (by decide), fun q => absurd q (by decide)⟩ (fun full => ?_) (fun c24 h5 X' => ?_)
  · exact tg_y_leaf C Y NY (by decide) (by decide) (Nat.zero_le 1) ⟨fun q => absurd q (by decide), fun q => absurd q (by decide)⟩ (fun _ => ⟨rfl, c, g, h, T, G, S, R, C, X, Y⟩) (fun c24 h5 => by omega)
  · exact tg_y_leaf C Y NY (by decide) (by decide) (Nat.zero_le 1) ⟨fun q => absurd q (by decide), fun q => absurd q (by decide)⟩ (fun full => by omega) (fun _ _ Y' => ⟨rfl, _, _, _, _, _, _, _, tg_Core_push C c24 (Nat.le_refl h) h5 (tg_GN_leaf (by omega) (by omega) (by omega) (by omega)), X', Y'⟩)
theorem i_vc_place {k : Nat} {u : SX} {v : SY} (I : i_Rel k u v) (hk : k + 5 ≤ 2560) (v1 : Int32) : wpX_place (fun r u' => wpY_place (fun r' v' => r' = r ∧ i_Rel (k + 5) u' v') v v1) u v1 := by
  obtain ⟨c, g, h, T, G, S, R, C, X, Y⟩ := I
  obtain ⟨f_count, f_settled, f_height, f_trees, f_charted, f_chartLength, f_chartBits, f_grown, a_kind, a_mark, a_fixed, a_first, a_second, a_footed, a_stack, a_root, a_words, a_pairs, a_baseWords, a_wrapPairs⟩ := u
  obtain ⟨yf_count, yf_trees, yf_grown, yf_depth, ya_kind, ya_label, ya_fixed, ya_first, ya_second, ya_overFoot, ya_roots, ya_stack, ya_words, ya_pairs⟩ := v
  unfold wpX_place wpY_place
  dsimp only
  by_cases z : tg_ok 3 v1
  · obtain ⟨a, ha, rfl⟩ := z
    have NX : tg_XN (tg_nd 3 a 0 0 1 0) 2 (nI a) 0 (-1) (-1) (nI (tg_nd 3 a 0 0 1 0 5)) := ⟨rfl, fun q => absurd (show 3 < 2 from q) (by decide), fun _ => rfl, fun q => absurd (show 5 ≤ 3 from q) (by decide), fun q => absurd (show 3 = 6 from q) (by decide), rfl⟩
    have NY : tg_YN (tg_nd 3 a 0 0 1 0) 3 (nI a) 1 0 0 (nI (tg_nd 3 a 0 0 1 0 5)) := ⟨rfl, fun _ => rfl, rfl, fun q => absurd (show 5 ≤ 3 from q) (by decide), fun q => absurd (show 3 = 6 from q) (by decide), rfl⟩
    refine tg_x_bad0 ha (br_t rfl (tg_x_leaf C X NX (Nat.zero_le 1) ⟨fun q => absurd (show 0 = 1 from q) (by decide), fun q => absurd q (by decide)⟩ (fun full => tg_y_lab1 ha (br_f (by decide) ?_)) (fun c24 h5 X' => tg_y_lab1 ha (br_f (by decide) ?_))))
    · exact tg_y_leaf C Y NY (by decide) (by decide) (Nat.zero_le 1) ⟨fun q => absurd (show 0 = 1 from q) (by decide), fun q => absurd q (by decide)⟩ (fun _ => ⟨rfl, c, g, h, T, G, S, R, C, X, Y⟩) (fun c24 h5 => by omega)
    · exact tg_y_leaf C Y NY (by decide) (by decide) (Nat.zero_le 1) ⟨fun q => absurd (show 0 = 1 from q) (by decide), fun q => absurd q (by decide)⟩ (fun full => by omega) (fun _ _ Y' => ⟨rfl, _, _, _, _, _, _, _, tg_Core_push C c24 (Nat.le_refl h) h5 (tg_GN_leaf (by omega) ha (by omega) (by omega)), X', Y'⟩)
  · exact tg_x_bad1 z (br_f (by decide) (tg_y_lab0 z (br_t rfl ⟨rfl, c, g, h, T, G, S, R, C, X, Y⟩)))
theorem i_vc_foot {k : Nat} {u : SX} {v : SY} (I : i_Rel k u v) (hk : k + 5 ≤ 2560) : wpX_foot (fun r u' => wpY_foot (fun r' v' => r' = r ∧ i_Rel (k + 5) u' v') v) u := by
  obtain ⟨c, g, h, T, G, S, R, C, X, Y⟩ := I
  obtain ⟨f_count, f_settled, f_height, f_trees, f_charted, f_chartLength, f_chartBits, f_grown, a_kind, a_mark, a_fixed, a_first, a_second, a_footed, a_stack, a_root, a_words, a_pairs, a_baseWords, a_wrapPairs⟩ := u
  obtain ⟨yf_count, yf_trees, yf_grown, yf_depth, ya_kind, ya_label, ya_fixed, ya_first, ya_second, ya_overFoot, ya_roots, ya_stack, ya_words, ya_pairs⟩ := v
  have NX : tg_XN (tg_nd 4 0 0 0 1 1) 3 0 0 (-1) (-1) (nI (tg_nd 4 0 0 0 1 1 5)) := ⟨rfl, fun q => absurd q (by decide), fun q => absurd q (by decide), fun q => absurd q (by decide), fun q => absurd q (by decide), rfl⟩
  have NY : tg_YN (tg_nd 4 0 0 0 1 1) 4 0 1 0 0 (nI (tg_nd 4 0 0 0 1 1 5)) := ⟨rfl, fun q => absurd q (by decide), rfl, fun q => absurd q (by decide), fun q => absurd q (by decide), rfl⟩
  unfold wpX_foot wpY_foot
  dsimp only
  refine tg_x_leaf C X NX (Nat.le_refl 1) ⟨fun q => rfl, fun q => rfl⟩ (fun full => ?_) (fun c24 h5 X' => ?_)
  · exact tg_y_leaf C Y NY (by decide) (by decide) (Nat.le_refl 1) ⟨fun q => rfl, fun q => rfl⟩ (fun _ => ⟨rfl, c, g, h, T, G, S, R, C, X, Y⟩) (fun c24 h5 => by omega)
  · exact tg_y_leaf C Y NY (by decide) (by decide) (Nat.le_refl 1) ⟨fun q => rfl, fun q => rfl⟩ (fun full => by omega) (fun _ _ Y' => ⟨rfl, _, _, _, _, _, _, _, tg_Core_push C c24 (Nat.le_refl h) h5 (tg_GN_leaf (by omega) (by omega) (by omega) (by omega)), X', Y'⟩)
theorem i_vc_node {k : Nat} {u : SX} {v : SY} (I : i_Rel k u v) (hk : k + 5 ≤ 2560) (v1 : Int32) (v2 : Int32) : wpX_node (fun r u' => wpY_node (fun r' v' => r' = r ∧ i_Rel (k + 5) u' v') v v1 v2) u v1 v2 := by
  obtain ⟨c, g, h, T, G, S, R, C, X, Y⟩ := I
  obtain ⟨f_count, f_settled, f_height, f_trees, f_charted, f_chartLength, f_chartBits, f_grown, a_kind, a_mark, a_fixed, a_first, a_second, a_footed, a_stack, a_root, a_words, a_pairs, a_baseWords, a_wrapPairs⟩ := u
  obtain ⟨yf_count, yf_trees, yf_grown, yf_depth, ya_kind, ya_label, ya_fixed, ya_first, ya_second, ya_overFoot, ya_roots, ya_stack, ya_words, ya_pairs⟩ := v
  by_cases z : tg_ok 3 v1 ∧ tg_ok 2 v2
  · obtain ⟨⟨a, ha, rfl⟩, f, hf, rfl⟩ := z
    refine tg_X_node C X ha hf (fun q => ?_) (fun q1 q2 => ?_) (fun e q1 q2 X' => ?_)
    · exact tg_Y_node C Y ha hf (fun _ => ⟨rfl, c, g, h, T, G, S, R, C, X, Y⟩) (fun _ _ => by omega) (fun _ _ _ => by omega)
    · exact tg_Y_node C Y ha hf (fun _ => by omega) (fun _ _ => ⟨rfl, c, g, h, T, G, S, R, C, X, Y⟩) (fun _ _ _ => by omega)
    · refine tg_Y_node C Y ha hf (fun _ => by omega) (fun _ _ => by omega) (fun e' q3 _ Y' => ?_)
      obtain rfl : e' = e := by omega
      have h5 := C.2.2.1
      have se := C.2.2.2.2.2.1 e' (by omega)
      have gn := C.2.2.2.2.1 _ se.2
      refine ⟨rfl, _, _, _, _, _, _, _, tg_Core_push C q2 (by omega) (by omega) ?_, X', Y'⟩
      exact ⟨by show 5 ≤ 6; omega, fun _ => ha, fun _ => ⟨se.2, fun _ => se.1⟩, fun q => absurd (show 5 = 6 from q) (by decide), by show f ≤ 1; omega, fun q => absurd (show 5 < 5 from q) (by decide), gn.2.2.2.2.2.2.1, fun _ => by show 4 ≤ 5; omega, fun q => absurd (show 5 = 4 from q) (by decide)⟩
  · exact tg_X_node_bad z (tg_Y_node_bad z ⟨rfl, c, g, h, T, G, S, R, C, X, Y⟩)
theorem i_vc_fork {k : Nat} {u : SX} {v : SY} (I : i_Rel k u v) (hk : k + 5 ≤ 2560) (v1 : Int32) (v2 : Int32) : wpX_fork (fun r u' => wpY_fork (fun r' v' => r' = r ∧ i_Rel (k + 5) u' v') v v1 v2) u v1 v2 := by
  obtain ⟨c, g, h, T, G, S, R, C, X, Y⟩ := I
  obtain ⟨f_count, f_settled, f_height, f_trees, f_charted, f_chartLength, f_chartBits, f_grown, a_kind, a_mark, a_fixed, a_first, a_second, a_footed, a_stack, a_root, a_words, a_pairs, a_baseWords, a_wrapPairs⟩ := u
  obtain ⟨yf_count, yf_trees, yf_grown, yf_depth, ya_kind, ya_label, ya_fixed, ya_first, ya_second, ya_overFoot, ya_roots, ya_stack, ya_words, ya_pairs⟩ := v
  by_cases z : tg_ok 3 v1 ∧ tg_ok 2 v2
  · obtain ⟨⟨a, ha, rfl⟩, f, hf, rfl⟩ := z
    refine tg_X_fork C X ha hf (fun q => ?_) (fun q1 q2 => ?_) (fun e q1 q2 q3 => ?_) (fun e q1 q2 q3 X' => ?_)
    · exact tg_Y_fork C Y ha hf (fun _ => ⟨rfl, c, g, h, T, G, S, R, C, X, Y⟩) (fun _ _ => by omega) (fun _ _ _ _ => by omega) (fun _ _ _ _ => by omega)
    · exact tg_Y_fork C Y ha hf (fun _ => by omega) (fun _ _ => ⟨rfl, c, g, h, T, G, S, R, C, X, Y⟩) (fun _ _ _ _ => by omega) (fun _ _ _ _ => by omega)
    · refine tg_Y_fork C Y ha hf (fun _ => by omega) (fun _ _ => by omega) (fun _ _ _ _ => ⟨rfl, c, g, h, T, G, S, R, C, X, Y⟩) (fun e' q4 _ q5 => ?_)
      obtain rfl : e' = e := by omega
      exact absurd q3 q5
    · refine tg_Y_fork C Y ha hf (fun _ => by omega) (fun _ _ => by omega) (fun e' q4 _ q5 => ?_) (fun e' q4 _ q5 Y' => ?_)
      · obtain rfl : e' = e := by omega
        exact absurd q5 q3
      obtain rfl : e' = e := by omega
      have h5 := C.2.2.1
      have se := C.2.2.2.2.2.1 e' (by omega)
      have se1 := C.2.2.2.2.2.1 (e' + 1) (by omega)
      have gn1 := C.2.2.2.2.1 _ se1.2
      have f2 := gn1.2.2.2.2.2.2.1
      refine ⟨rfl, _, _, _, _, _, _, _, tg_Core_push C q2 (by omega) (by omega) ?_, X', Y'⟩
      exact ⟨by show 6 ≤ 6; omega, fun _ => ha, fun _ => ⟨se.2, fun _ => se.1⟩, fun _ => ⟨se1.2, fun _ => se1.1⟩, by show f ≤ 1; omega, fun q => absurd (show 6 < 5 from q) (by decide), by show (if G (S e') 5 = 0 then G (S (e' + 1)) 5 else 1) ≤ 1; split <;> omega, fun _ => by show 4 ≤ 6; omega, fun q => absurd (show 6 = 4 from q) (by decide)⟩
  · exact tg_X_fork_bad z (tg_Y_fork_bad z ⟨rfl, c, g, h, T, G, S, R, C, X, Y⟩)
theorem i_vc_room {k : Nat} {u : SX} {v : SY} (I : i_Rel k u v) (hk : k + 5 ≤ 2560) : wpX_room (fun r => wpY_room (fun r' => r' = r ∧ i_Rel (k + 5) u v) v) u := by
  have I' := I
  obtain ⟨c, g, h, T, G, S, R, C, X, Y⟩ := I
  obtain ⟨f_count, f_settled, f_height, f_trees, f_charted, f_chartLength, f_chartBits, f_grown, a_kind, a_mark, a_fixed, a_first, a_second, a_footed, a_stack, a_root, a_words, a_pairs, a_baseWords, a_wrapPairs⟩ := u
  obtain ⟨yf_count, yf_trees, yf_grown, yf_depth, ya_kind, ya_label, ya_fixed, ya_first, ya_second, ya_overFoot, ya_roots, ya_stack, ya_words, ya_pairs⟩ := v
  exact ⟨by rw [X.1, Y.1], I'⟩
theorem i_vc_depth {k : Nat} {u : SX} {v : SY} (I : i_Rel k u v) (hk : k + 5 ≤ 2560) : wpX_depth (fun r => wpY_depth (fun r' => r' = r ∧ i_Rel (k + 5) u v) v) u := by
  have I' := I
  obtain ⟨c, g, h, T, G, S, R, C, X, Y⟩ := I
  obtain ⟨f_count, f_settled, f_height, f_trees, f_charted, f_chartLength, f_chartBits, f_grown, a_kind, a_mark, a_fixed, a_first, a_second, a_footed, a_stack, a_root, a_words, a_pairs, a_baseWords, a_wrapPairs⟩ := u
  obtain ⟨yf_count, yf_trees, yf_grown, yf_depth, ya_kind, ya_label, ya_fixed, ya_first, ya_second, ya_overFoot, ya_roots, ya_stack, ya_words, ya_pairs⟩ := v
  exact ⟨by rw [X.2.2.1, Y.2.2.1], I'⟩
theorem i_vc_discard {k : Nat} {u : SX} {v : SY} (I : i_Rel k u v) (hk : k + 5 ≤ 2560) : wpX_discard (fun u' => wpY_discard (fun v' => i_Rel (k + 5) u' v') v) u := by
  obtain ⟨c, g, h, T, G, S, R, C, X, Y⟩ := I
  obtain ⟨f_count, f_settled, f_height, f_trees, f_charted, f_chartLength, f_chartBits, f_grown, a_kind, a_mark, a_fixed, a_first, a_second, a_footed, a_stack, a_root, a_words, a_pairs, a_baseWords, a_wrapPairs⟩ := u
  obtain ⟨yf_count, yf_trees, yf_grown, yf_depth, ya_kind, ya_label, ya_fixed, ya_first, ya_second, ya_overFoot, ya_roots, ya_stack, ya_words, ya_pairs⟩ := v
  obtain ⟨X1, X2, X3, X4, X5, X6⟩ := X
  obtain ⟨Y1, Y2, Y3, Y4, Y5, Y6⟩ := Y
  exact ⟨g, g, 0, T, G, S, R, tg_Core_discard C, ⟨X2, X2, rfl, fun i hi => by omega, tg_XM_le C.1 X5, X6⟩, ⟨Y2, Y2, rfl, fun i hi => by omega, tg_YG_le C.1 Y5, Y6⟩⟩
theorem i_vc_add {k : Nat} {u : SX} {v : SY} (I : i_Rel k u v) (hk : k + 5 ≤ 2560) : wpX_add (fun r u' => wpY_add (fun r' v' => r' = r ∧ i_Rel (k + 5) u' v') v) u := by
  obtain ⟨c, g, h, T, G, S, R, C, X, Y⟩ := I
  obtain ⟨f_count, f_settled, f_height, f_trees, f_charted, f_chartLength, f_chartBits, f_grown, a_kind, a_mark, a_fixed, a_first, a_second, a_footed, a_stack, a_root, a_words, a_pairs, a_baseWords, a_wrapPairs⟩ := u
  obtain ⟨yf_count, yf_trees, yf_grown, yf_depth, ya_kind, ya_label, ya_fixed, ya_first, ya_second, ya_overFoot, ya_roots, ya_stack, ya_words, ya_pairs⟩ := v
  refine tg_X_add C X (fun q => ?_) (fun q1 q2 => ?_) (fun q1 q2 q3 X' => ?_)
  · exact tg_Y_add C Y (fun _ => ⟨rfl, c, g, h, T, G, S, R, C, X, Y⟩) (fun _ _ => by omega) (fun _ _ _ => by omega)
  · exact tg_Y_add C Y (fun _ => by omega) (fun _ _ => ⟨rfl, c, g, h, T, G, S, R, C, X, Y⟩) (fun _ z1 z2 => absurd ⟨z1, z2⟩ q2)
  · exact tg_Y_add C Y (fun _ => by omega) (fun _ z => absurd ⟨q2, q3⟩ z) (fun _ _ _ W Q Y' => ⟨rfl, _, _, _, _, _, _, _, tg_Core_add C q1 q2 q3, X', Y'⟩)
theorem i_vc_trees {k : Nat} {u : SX} {v : SY} (I : i_Rel k u v) (hk : k + 5 ≤ 2560) : wpX_trees (fun r => wpY_trees (fun r' => r' = r ∧ i_Rel (k + 5) u v) v) u := by
  have I' := I
  obtain ⟨c, g, h, T, G, S, R, C, X, Y⟩ := I
  obtain ⟨f_count, f_settled, f_height, f_trees, f_charted, f_chartLength, f_chartBits, f_grown, a_kind, a_mark, a_fixed, a_first, a_second, a_footed, a_stack, a_root, a_words, a_pairs, a_baseWords, a_wrapPairs⟩ := u
  obtain ⟨yf_count, yf_trees, yf_grown, yf_depth, ya_kind, ya_label, ya_fixed, ya_first, ya_second, ya_overFoot, ya_roots, ya_stack, ya_words, ya_pairs⟩ := v
  exact ⟨by rw [X.2.2.2.2.1.1, Y.2.2.2.2.1.1], I'⟩
theorem i_vc_clear {k : Nat} {u : SX} {v : SY} (I : i_Rel k u v) (hk : k + 5 ≤ 2560) : wpX_clear (fun u' => wpY_clear (fun v' => i_Rel (k + 5) u' v') v) u := by
  obtain ⟨c, g, h, T, G, S, R, C, X, Y⟩ := I
  obtain ⟨f_count, f_settled, f_height, f_trees, f_charted, f_chartLength, f_chartBits, f_grown, a_kind, a_mark, a_fixed, a_first, a_second, a_footed, a_stack, a_root, a_words, a_pairs, a_baseWords, a_wrapPairs⟩ := u
  obtain ⟨yf_count, yf_trees, yf_grown, yf_depth, ya_kind, ya_label, ya_fixed, ya_first, ya_second, ya_overFoot, ya_roots, ya_stack, ya_words, ya_pairs⟩ := v
  exact tg_X_clear C X (fun u' X' => tg_Y_clear C Y (fun v' Y' => ⟨_, _, _, _, _, _, _, tg_Core_clear C, X', Y'⟩))
theorem i_vc_yields {k : Nat} {u : SX} {v : SY} (I : i_Rel k u v) (hk : k + 5 ≤ 2560) (v1 : Int32) (v2 : Int32) (v3 : Int32) : wpX_yields (fun r u' => wpY_yields (fun r' => r' = r ∧ i_Rel (k + 5) u' v) v v1 v2 v3) u v1 v2 v3 := by
  obtain ⟨c, g, h, T, G, S, R, C, X, Y⟩ := I
  obtain ⟨f_count, f_settled, f_height, f_trees, f_charted, f_chartLength, f_chartBits, f_grown, a_kind, a_mark, a_fixed, a_first, a_second, a_footed, a_stack, a_root, a_words, a_pairs, a_baseWords, a_wrapPairs⟩ := u
  obtain ⟨yf_count, yf_trees, yf_grown, yf_depth, ya_kind, ya_label, ya_fixed, ya_first, ya_second, ya_overFoot, ya_roots, ya_stack, ya_words, ya_pairs⟩ := v
  by_cases z : tg_ok 3 v1 ∧ tg_okw v2 v3
  · obtain ⟨⟨a, ha, rfl⟩, n, o, ho, hn, rfl, rfl⟩ := z
    refine tg_X_yields C X ha ho hn (fun m W P B E X' q => ?_) (fun m W P B E X' q => ?_)
    · exact tg_Y_yields C Y ha ho hn (fun _ => ⟨rfl, c, g, h, T, G, S, R, C, X', Y⟩) (fun z => absurd q z)
    · exact tg_Y_yields C Y ha ho hn (fun z => absurd z q) (fun _ => ⟨rfl, c, g, h, T, G, S, R, C, X', Y⟩)
  · exact tg_X_yields_bad z (tg_Y_yields_bad z ⟨rfl, c, g, h, T, G, S, R, C, X, Y⟩)
theorem i_vc_has {k : Nat} {u : SX} {v : SY} (I : i_Rel k u v) (hk : k + 5 ≤ 2560) (v1 : Int32) (v2 : Int32) (v3 : Int32) : wpX_has (fun r u' => wpY_has (fun r' => r' = r ∧ i_Rel (k + 5) u' v) v v1 v2 v3) u v1 v2 v3 := by
  obtain ⟨c, g, h, T, G, S, R, C, X, Y⟩ := I
  obtain ⟨f_count, f_settled, f_height, f_trees, f_charted, f_chartLength, f_chartBits, f_grown, a_kind, a_mark, a_fixed, a_first, a_second, a_footed, a_stack, a_root, a_words, a_pairs, a_baseWords, a_wrapPairs⟩ := u
  obtain ⟨yf_count, yf_trees, yf_grown, yf_depth, ya_kind, ya_label, ya_fixed, ya_first, ya_second, ya_overFoot, ya_roots, ya_stack, ya_words, ya_pairs⟩ := v
  by_cases z : tg_ok T v1 ∧ tg_okw v2 v3
  · obtain ⟨⟨t, ht, rfl⟩, n, o, ho, hn, rfl, rfl⟩ := z
    refine tg_X_has C X ht ho hn (fun q => ?_) (fun u' X' q => ?_) (fun u' X' q => ?_)
    · exact tg_Y_has C Y ht ho hn (fun z => absurd (tg_LW_f z).1 q) (fun _ => ⟨rfl, c, g, h, T, G, S, R, C, X, Y⟩)
    · exact tg_Y_has C Y ht ho hn (fun _ => ⟨rfl, c, g, h, T, G, S, R, C, X', Y⟩) (fun z => absurd q z)
    · exact tg_Y_has C Y ht ho hn (fun z => absurd z q) (fun _ => ⟨rfl, c, g, h, T, G, S, R, C, X', Y⟩)
  · exact tg_X_has_bad C X z (tg_Y_has_bad C Y z ⟨rfl, c, g, h, T, G, S, R, C, X, Y⟩)
theorem i_vc_wraps {k : Nat} {u : SX} {v : SY} (I : i_Rel k u v) (hk : k + 5 ≤ 2560) (v1 : Int32) (v2 : Int32) (v3 : Int32) (v4 : Int32) : wpX_wraps (fun r u' => wpY_wraps (fun r' => r' = r ∧ i_Rel (k + 5) u' v) v v1 v2 v3 v4) u v1 v2 v3 v4 := by
  obtain ⟨c, g, h, T, G, S, R, C, X, Y⟩ := I
  obtain ⟨f_count, f_settled, f_height, f_trees, f_charted, f_chartLength, f_chartBits, f_grown, a_kind, a_mark, a_fixed, a_first, a_second, a_footed, a_stack, a_root, a_words, a_pairs, a_baseWords, a_wrapPairs⟩ := u
  obtain ⟨yf_count, yf_trees, yf_grown, yf_depth, ya_kind, ya_label, ya_fixed, ya_first, ya_second, ya_overFoot, ya_roots, ya_stack, ya_words, ya_pairs⟩ := v
  by_cases z : tg_ok T v1 ∧ tg_okw v3 v4 ∧ tg_okp v2 v3
  · obtain ⟨⟨t, ht, rfl⟩, ⟨n, o, ho, hn, rfl, rfl⟩, p0, p1⟩ := z
    have n5 := (tg_w_facts ho hn).1
    obtain ⟨p, hp, rfl⟩ := nI_of p0
    have hpn := (nI_leI hp (by omega)).mp p1
    refine tg_X_wraps C X ht hpn ho hn (fun q => ?_) (fun u' X' q => ?_) (fun u' X' q => ?_)
    · exact tg_Y_wraps C Y ht hpn ho hn (fun z => by have := (tg_LP_f z).1; omega) (fun _ => ⟨rfl, c, g, h, T, G, S, R, C, X, Y⟩)
    · exact tg_Y_wraps C Y ht hpn ho hn (fun _ => ⟨rfl, c, g, h, T, G, S, R, C, X', Y⟩) (fun z => absurd q z)
    · exact tg_Y_wraps C Y ht hpn ho hn (fun z => absurd z q) (fun _ => ⟨rfl, c, g, h, T, G, S, R, C, X', Y⟩)
  · exact tg_X_wraps_bad C X z (tg_Y_wraps_bad C Y z ⟨rfl, c, g, h, T, G, S, R, C, X, Y⟩)
theorem i_vc_lengths {k : Nat} {u : SX} {v : SY} (I : i_Rel k u v) (hk : k + 5 ≤ 2560) (v1 : Int32) : wpX_lengths (fun r u' => wpY_lengths (fun r' => r' = r ∧ i_Rel (k + 5) u' v) v v1) u v1 := by
  obtain ⟨c, g, h, T, G, S, R, C, X, Y⟩ := I
  obtain ⟨f_count, f_settled, f_height, f_trees, f_charted, f_chartLength, f_chartBits, f_grown, a_kind, a_mark, a_fixed, a_first, a_second, a_footed, a_stack, a_root, a_words, a_pairs, a_baseWords, a_wrapPairs⟩ := u
  obtain ⟨yf_count, yf_trees, yf_grown, yf_depth, ya_kind, ya_label, ya_fixed, ya_first, ya_second, ya_overFoot, ya_roots, ya_stack, ya_words, ya_pairs⟩ := v
  by_cases z : tg_ok 3 v1
  · obtain ⟨a, ha, rfl⟩ := z
    have ex : ∀ i, ∃ x : Nat, x ≤ 1 ∧ (x = 1 ↔ tg_El g T G R a i) := by
      intro i
      by_cases q : tg_El g T G R a i
      · exact ⟨1, Nat.le_refl 1, fun _ => q, fun _ => rfl⟩
      · exact ⟨0, Nat.zero_le 1, fun y => absurd y (by decide), fun y => absurd y q⟩
    obtain ⟨e, he⟩ := Classical.axiomOfChoice ex
    exact tg_X_lengths C X ha he (fun u' X' => tg_Y_lengths C Y ha he ⟨rfl, c, g, h, T, G, S, R, C, X', Y⟩)
  · exact tg_X_lengths_bad z (tg_Y_lengths_bad z ⟨rfl, c, g, h, T, G, S, R, C, X, Y⟩)
end
