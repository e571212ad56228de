section
/-! rows pasted from the kit's rows to paste (starting text) -/
theorem pk_us {f : Nat → Int32} {k : Nat} {x : Int32} : upd f k x k = x := if_pos rfl
theorem pk_un {f : Nat → Int32} {k j : Nat} {x : Int32} (h : j ≠ k) : upd f k x j = f j := if_neg h
theorem pk_sub {a b : Nat} (h : b ≤ a) : nI a - nI b = nI (a - b) := by
  obtain ⟨c, rfl⟩ : ∃ c, a = c + b := ⟨a - b, by omega⟩
  rw [← nI_add, Int32.add_sub_cancel, Nat.add_sub_cancel]
theorem pk_m1 (n : Nat) : nI (n + 1) + (-1) = nI n := by
  rw [← nI_1, Int32.add_assoc, show (1 : Int32) + (-1) = 0 from rfl, Int32.add_zero]
theorem pk_mul (a b : Nat) : nI a * nI b = nI (a * b) := (Int32.ofNat_mul a b).symm
theorem pk_div {a d : Nat} (ha : a < 2 ^ 31) (h0 : 0 < d) (hd : d < 2 ^ 31) : nI a / nI d = nI (a / d) := by
  apply Int32.toInt_inj.mp
  rw [lg_idiv_nonneg (by rw [nI_toInt ha]; omega) (by rw [nI_toInt hd]; omega), nI_toInt ha, nI_toInt hd, nI_toInt (Nat.lt_of_le_of_lt (Nat.div_le_self a d) ha)]
  first | rfl | exact (Int.natCast_ediv _ _).symm
theorem pk_rem {a d : Nat} (ha : a < 2 ^ 31) (h0 : 0 < d) (hd : d < 2 ^ 31) : nI a - nI a / nI d * nI d = nI (a % d) := by
  rw [pk_div ha h0 hd, pk_mul, pk_sub (Nat.div_mul_le_self a d)]
  exact congrArg nI (by have := Nat.div_add_mod' a d; omega)
theorem pk_sub_toInt {a b : Nat} (ha : a < 2 ^ 30) (hb : b < 2 ^ 30) : (nI a - nI b).toInt = (a : Int) - b := by
  rw [Int32.toInt_sub, nI_toInt (by omega), nI_toInt (by omega)]
  exact Int.bmod_eq_of_le (by omega) (by omega)
theorem pk_sneg {a b : Nat} (hb : b < 2 ^ 30) (h : a < b) : nI a - nI b < 0 := by
  rw [Int32.lt_iff_toInt_lt, pk_sub_toInt (by omega) hb, show (0 : Int32).toInt = 0 from by decide]
  omega
theorem pk_ix (x : Int32) {n : Nat} (hn : n < 2 ^ 31) : x < 0 ∨ nI n ≤ x ∨ ∃ j : Nat, j < n ∧ x = nI j := by
  by_cases h : x < 0
  · exact Or.inl h
  · obtain ⟨j, hj, rfl⟩ := nI_of h
    by_cases h2 : j < n
    · exact Or.inr (Or.inr ⟨j, h2, rfl⟩)
    · exact Or.inr (Or.inl (nI_le (by omega) hj))
theorem pk_le {x y : Int32} {A B : Prop} (a b : Nat) (f : a ≤ b → A) (g : b < a → B) (hx : x = nI a := by rfl) (hy : y = nI b := by rfl) (ha : a < 2 ^ 31 := by omega) (hb : b < 2 ^ 31 := by omega) : (x ≤ y → A) ∧ (¬ x ≤ y → B) := by
  subst hx hy
  rw [nI_leI ha hb]
  exact ⟨f, fun z => g (by omega)⟩
theorem pk_lt {x y : Int32} {A B : Prop} (a b : Nat) (f : a < b → A) (g : b ≤ a → B) (hx : x = nI a := by rfl) (hy : y = nI b := by rfl) (ha : a < 2 ^ 31 := by omega) (hb : b < 2 ^ 31 := by omega) : (x < y → A) ∧ (¬ x < y → B) := by
  subst hx hy
  rw [nI_ltI ha hb]
  exact ⟨f, fun z => g (by omega)⟩
theorem pk_eq {x y : Int32} {A B : Prop} (a b : Nat) (f : a = b → A) (g : a ≠ b → B) (hx : x = nI a := by rfl) (hy : y = nI b := by rfl) (ha : a < 2 ^ 31 := by omega) (hb : b < 2 ^ 31 := by omega) : (x = y → A) ∧ (¬ x = y → B) := by
  subst hx hy
  rw [nI_eq ha hb]
  exact ⟨f, g⟩
theorem pk_in {x : Int32} (n N : Nat) (h : n < N) (hx : x = nI n := by rfl) (hN : N < 2 ^ 31 := by omega) : vp_in x N := by
  subst hx
  exact vp_in_nI h hN
theorem pk_cl {x : Int32} (n : Nat) (hx : x = nI n := by rfl) (h : n < 2 ^ 31 := by omega) : x.toNatClampNeg = n := by
  subst hx
  exact nI_clamp h
theorem pk_tn {n : Nat} (h : n < 2 ^ 32) : (nI n).toBitVec.toNat = n := Nat.mod_eq_of_lt h
theorem pk_and (x : Int32) {m : Int32} (k : Nat) (hm : m.toBitVec.toNat = 2 ^ k - 1) : x &&& m = nI (x.toBitVec.toNat % 2 ^ k) := by
  apply Int32.toBitVec_inj.mp
  apply BitVec.eq_of_toNat_eq
  rw [Int32.toBitVec_and, BitVec.toNat_and, hm, Nat.and_two_pow_sub_one_eq_mod]
  show _ = (BitVec.ofNat 32 _).toNat
  rw [BitVec.toNat_ofNat]
  exact (Nat.mod_eq_of_lt (Nat.lt_of_le_of_lt (Nat.mod_le _ _) x.toBitVec.isLt)).symm
theorem pk_andN {n : Nat} (h : n < 2 ^ 32) {m : Int32} (k : Nat) (hm : m.toBitVec.toNat = 2 ^ k - 1) : nI n &&& m = nI (n % 2 ^ k) := by
  rw [pk_and _ k hm, pk_tn h]
theorem pk_shl (a s : Int32) (k : Nat) (hs : (s.toBitVec.smod 32).toNat = k) : (a <<< s).toBitVec.toNat = a.toBitVec.toNat * 2 ^ k % 2 ^ 32 := by
  show (a.toBitVec <<< (s.toBitVec.smod 32).toNat).toNat = _
  rw [hs, BitVec.toNat_shiftLeft, Nat.shiftLeft_eq]
theorem pk_shlN {n : Nat} (s : Int32) (k : Nat) (hs : (s.toBitVec.smod 32).toNat = k) (h : n * 2 ^ k < 2 ^ 32) : nI n <<< s = nI (n * 2 ^ k) := by
  apply Int32.toBitVec_inj.mp
  apply BitVec.eq_of_toNat_eq
  have hn : n < 2 ^ 32 := Nat.lt_of_le_of_lt (Nat.le_mul_of_pos_right n (Nat.two_pow_pos k)) h
  rw [pk_shl _ _ k hs, pk_tn hn, pk_tn h, Nat.mod_eq_of_lt h]
theorem pk_shr (a s : Int32) (k : Nat) (hs : (s.toBitVec.smod 32).toNat = k) : (a >>> s).toInt = a.toInt >>> k := by
  show (a.toBitVec.sshiftRight (s.toBitVec.smod 32).toNat).toInt = _
  rw [hs, BitVec.toInt_sshiftRight]
  rfl
theorem pk_shrN {n : Nat} (h : n < 2 ^ 31) (s : Int32) (k : Nat) (hs : (s.toBitVec.smod 32).toNat = k) : nI n >>> s = nI (n / 2 ^ k) := by
  apply Int32.toInt_inj.mp
  have h2 : n / 2 ^ k ≤ n := Nat.div_le_self _ _
  rw [pk_shr _ _ k hs, nI_toInt h, nI_toInt (by omega), Int.shiftRight_eq_div_pow]
  rfl
theorem pk_lT {n : Nat} (h : n < 2 ^ 63) : (lN n).toInt = (n : Int) := lg_ofNat_toInt h
theorem pk_lLT {a b : Nat} (ha : a < 2 ^ 63) (hb : b < 2 ^ 63) : lN a < lN b ↔ a < b := by
  rw [Int64.lt_iff_toInt_lt, pk_lT ha, pk_lT hb]; omega
theorem pk_lLE {a b : Nat} (ha : a < 2 ^ 63) (hb : b < 2 ^ 63) : lN a ≤ lN b ↔ a ≤ b := by
  rw [Int64.le_iff_toInt_le, pk_lT ha, pk_lT hb]; omega
theorem pk_lEQ {a b : Nat} (ha : a < 2 ^ 63) (hb : b < 2 ^ 63) : lN a = lN b ↔ a = b := by
  rw [← Int64.toInt_inj, pk_lT ha, pk_lT hb]; omega
theorem pk_lOf {x : Int64} (h : ¬ x < 0) : ∃ k : Nat, k < 2 ^ 63 ∧ x = lN k := by
  rw [Int64.lt_iff_toInt_lt] at h
  have h0 : (0 : Int64).toInt = 0 := by decide
  have hx := Int64.toInt_lt x
  refine ⟨x.toInt.toNat, by omega, Int64.toInt_inj.mp ?_⟩
  rw [pk_lT (by omega)]
  omega
theorem pk_lDiv {a b : Nat} (ha : a < 2 ^ 63) (h0 : 0 < b) (hb : b < 2 ^ 63) : lN a / lN b = lN (a / b) := by
  apply Int64.toInt_inj.mp
  rw [lg_ldiv_nonneg (by rw [pk_lT ha]; omega) (by rw [pk_lT hb]; omega), pk_lT ha, pk_lT hb, pk_lT (Nat.lt_of_le_of_lt (Nat.div_le_self a b) ha)]
  rfl
theorem pk_least (P : Nat → Prop) (h : ∃ k, P k) : ∃ k, P k ∧ ∀ j, j < k → ¬ P j := by
  obtain ⟨k, hk⟩ := h
  induction k using Nat.strongRecOn with
  | ind k ih =>
    by_cases e : ∃ j, j < k ∧ P j
    · obtain ⟨j, hj, pj⟩ := e
      exact ih j hj pj
    · exact ⟨k, hk, fun j hj pj => e ⟨j, hj, pj⟩⟩
theorem ek_if {c d A B : Prop} (e : c ↔ d) (f : d → A) (g : ¬ d → B) : (c → A) ∧ (¬ c → B) :=
  ⟨fun z => f (e.mp z), fun z => g (fun y => z (e.mpr y))⟩
theorem ek_v {α : Sort _} {P : α → Prop} {a b : α} (e : a = b) (h : P b) : P a := e ▸ h
def bt (x : Int32) (i : Nat) : Bool := x.toBitVec.getLsbD i
theorem b_ext {x y : Int32} (h : ∀ i, i < 32 → bt x i = bt y i) : x = y := Int32.toBitVec_inj.mp (BitVec.eq_of_getLsbD_eq (fun i hi => h i hi))
theorem b_or (x y : Int32) (i : Nat) : bt (x ||| y) i = (bt x i || bt y i) := by unfold bt; rw [Int32.toBitVec_or, BitVec.getLsbD_or]
theorem b_and (x y : Int32) (i : Nat) : bt (x &&& y) i = (bt x i && bt y i) := by unfold bt; rw [Int32.toBitVec_and, BitVec.getLsbD_and]
theorem b_xor (x y : Int32) (i : Nat) : bt (x ^^^ y) i = (bt x i ^^ bt y i) := by unfold bt; rw [Int32.toBitVec_xor, BitVec.getLsbD_xor]
theorem b_big {x : Int32} {i : Nat} (h : 32 ≤ i) : bt x i = false := BitVec.getLsbD_of_ge _ _ h
theorem b_m1 : ∀ i, i < 32 → bt (-1) i = true := by decide +kernel
theorem b_0 (i : Nat) : bt 0 i = false := BitVec.getLsbD_zero
theorem s_l : ∀ n, n < 32 → ((nI n &&& 31).toBitVec.smod 32).toNat = n := by decide +kernel
theorem b_shl (n : Nat) (hn : n < 32) (x : Int32) {i : Nat} (hi : i < 32) : bt (x <<< (nI n &&& 31)) i = (decide (n ≤ i) && bt x (i - n)) := by
  unfold bt
  rw [Int32.toBitVec_shiftLeft]
  show (x.toBitVec <<< ((nI n &&& 31).toBitVec.smod 32).toNat).getLsbD i = _
  rw [s_l n hn, BitVec.getLsbD_shiftLeft]
  rcases Nat.lt_or_ge i n with h | h
  · simp [h, Nat.not_le.mpr h]
  · simp [hi, h, Nat.not_lt.mpr h]
theorem b_sshr (n : Nat) (hn : n < 32) (x : Int32) {i : Nat} (hi : i < 32) : bt (x >>> (nI n &&& 31)) i = if n + i < 32 then bt x (n + i) else bt x 31 := by
  unfold bt
  rw [Int32.toBitVec_shiftRight]
  show (x.toBitVec.sshiftRight ((nI n &&& 31).toBitVec.smod 32).toNat).getLsbD i = _
  rw [s_l n hn, BitVec.getLsbD_sshiftRight, BitVec.msb_eq_getLsbD_last]
  simp [hi]
theorem nx_and (a b : Nat) : nI a &&& nI b = nI (a &&& b) := by
  apply Int32.toBitVec_inj.1
  show BitVec.ofNat 32 a &&& BitVec.ofNat 32 b = BitVec.ofNat 32 (a &&& b)
  apply BitVec.eq_of_getLsbD_eq
  intro i hi
  simp [hi]
theorem nf_sh : ∀ l, l < 32 → ((1 : Int32) <<< (nI l &&& 31)).toBitVec = BitVec.twoPow 32 l := by decide +kernel
end
section
/-! sets of cells as Int32, by their bits -/
def mr_bit (c : Nat) : Int32 := (1 : Int32) <<< (nI c &&& 31)
theorem mr_bit_bt {c i : Nat} (hc : c < 32) (hi : i < 32) : bt (mr_bit c) i = decide (i = c) := by
  unfold bt mr_bit
  rw [nf_sh c hc, BitVec.getLsbD_twoPow, decide_eq_true hc, Bool.true_and]
  exact decide_eq_decide.mpr eq_comm
theorem mr_bit_self {c : Nat} (hc : c < 32) : bt (mr_bit c) c = true := by
  rw [mr_bit_bt hc hc]; exact decide_eq_true rfl
theorem mr_bit_ne {c i : Nat} (hc : c < 32) (hi : i < 32) (h : i ≠ c) : bt (mr_bit c) i = false := by
  rw [mr_bit_bt hc hi]; exact decide_eq_false h
theorem mr_bit_iff {c i : Nat} (hc : c < 32) (hi : i < 32) : bt (mr_bit c) i = true ↔ i = c := by
  rw [mr_bit_bt hc hi]; exact decide_eq_true_iff
def mr_W (x : Int32) : Prop := ∀ i, 20 ≤ i → bt x i = false
theorem mr_W_ext {x y : Int32} (hx : mr_W x) (hy : mr_W y) (h : ∀ i, i < 20 → bt x i = bt y i) : x = y := b_ext (fun i _ => by
  rcases Nat.lt_or_ge i 20 with h1 | h1
  · exact h i h1
  · rw [hx i h1, hy i h1])
theorem mr_W_lt {x : Int32} (hx : mr_W x) {i : Nat} (h : bt x i = true) : i < 20 := by
  rcases Nat.lt_or_ge i 20 with h1 | h1
  · exact h1
  · rw [hx i h1] at h; exact absurd h (by decide)
theorem mr_W0 : mr_W 0 := fun i _ => b_0 i
theorem mr_W_or {x y : Int32} (hx : mr_W x) (hy : mr_W y) : mr_W (x ||| y) := fun i h => by rw [b_or, hx i h, hy i h]; rfl
theorem mr_W_and {x y : Int32} (hx : mr_W x) : mr_W (x &&& y) := fun i h => by rw [b_and, hx i h]; rfl
theorem mr_W_and' {x y : Int32} (hy : mr_W y) : mr_W (x &&& y) := fun i h => by rw [b_and, hy i h, Bool.and_false]
theorem mr_W_bit {c : Nat} (hc : c < 20) : mr_W (mr_bit c) := fun i h => by
  rcases Nat.lt_or_ge i 32 with h1 | h1
  · rw [mr_bit_bt (by omega) h1]; exact decide_eq_false (by omega)
  · exact b_big h1
theorem mr_not {x : Int32} {i : Nat} (hi : i < 32) : bt (x ^^^ (-1)) i = !(bt x i) := by
  rw [b_xor, b_m1 i hi]; cases bt x i <;> rfl
theorem mr_bt1 : ∀ i, i < 32 → bt 1 i = decide (i = 0) := by decide +kernel
theorem mr_sh1 {x : Int32} {c : Nat} (hc : c < 32) : (x >>> (nI c &&& 31)) &&& 1 = if bt x c = true then 1 else 0 := by
  have h0 : bt (x >>> (nI c &&& 31)) 0 = bt x c := by
    rw [b_sshr c hc x (by omega), if_pos (by omega)]; rfl
  apply b_ext
  intro i hi
  rw [b_and, mr_bt1 i hi]
  by_cases e : i = 0
  · subst e
    rw [h0]
    cases bt x c
    · exact (b_0 0).symm
    · exact (mr_bt1 0 (by omega)).symm
  · rw [decide_eq_false e, Bool.and_false]
    cases bt x c
    · exact (b_0 i).symm
    · exact ((mr_bt1 i hi).trans (decide_eq_false e)).symm
theorem mr_has {x : Int32} {c : Nat} (hc : c < 32) : ((x >>> (nI c &&& 31)) &&& 1) = 1 ↔ bt x c = true := by
  rw [mr_sh1 hc]
  cases bt x c
  · exact ⟨fun z => absurd z (by decide), fun z => absurd z (by decide)⟩
  · exact ⟨fun _ => rfl, fun _ => rfl⟩
theorem mr_has0 {x : Int32} {c : Nat} (hc : c < 32) : ((x >>> (nI c &&& 31)) &&& 1) = 0 ↔ bt x c = false := by
  rw [mr_sh1 hc]
  cases bt x c
  · exact ⟨fun _ => rfl, fun _ => rfl⟩
  · exact ⟨fun z => absurd z (by decide), fun z => absurd z (by decide)⟩
/-! counting -/
def mr_ct (f : Nat → Bool) : Nat → Nat
  | 0 => 0
  | n + 1 => mr_ct f n + (if f n = true then 1 else 0)
theorem mr_ct_s (f : Nat → Bool) (n : Nat) : mr_ct f (n + 1) = mr_ct f n + (if f n = true then 1 else 0) := rfl
theorem mr_ct_t {f : Nat → Bool} {n : Nat} (h : f n = true) : mr_ct f (n + 1) = mr_ct f n + 1 := by rw [mr_ct_s, if_pos h]
theorem mr_ct_f {f : Nat → Bool} {n : Nat} (h : f n = false) : mr_ct f (n + 1) = mr_ct f n := by rw [mr_ct_s, h]; rfl
theorem mr_ct_le (f : Nat → Bool) : ∀ n, mr_ct f n ≤ n := by
  intro n
  induction n with
  | zero => exact Nat.le_refl 0
  | succ n ih => rw [mr_ct_s]; split <;> omega
theorem mr_ct_mono {f g : Nat → Bool} : ∀ n, (∀ i, i < n → f i = true → g i = true) → mr_ct f n ≤ mr_ct g n := by
  intro n
  induction n with
  | zero => intro _; exact Nat.le_refl 0
  | succ n ih =>
    intro h
    have h1 := ih (fun i hi => h i (by omega))
    have h2 := h n (by omega)
    by_cases e : f n = true
    · rw [mr_ct_t e, mr_ct_t (h2 e)]; omega
    · rw [mr_ct_f (Bool.eq_false_iff.mpr e), mr_ct_s]
      exact Nat.le_trans h1 (Nat.le_add_right _ _)
theorem mr_ct_congr {f g : Nat → Bool} {n : Nat} (h : ∀ i, i < n → f i = g i) : mr_ct f n = mr_ct g n :=
  Nat.le_antisymm (mr_ct_mono n (fun i hi e => by rw [← h i hi]; exact e)) (mr_ct_mono n (fun i hi e => by rw [h i hi]; exact e))
theorem mr_ct_or {f g h : Nat → Bool} : ∀ n, (∀ i, i < n → h i = (f i || g i)) → (∀ i, i < n → f i = true → g i = true → False) → mr_ct h n = mr_ct f n + mr_ct g n := by
  intro n
  induction n with
  | zero => intro _ _; rfl
  | succ n ih =>
    intro e d
    have h1 := ih (fun i hi => e i (by omega)) (fun i hi => d i (by omega))
    have h2 := e n (by omega)
    have h3 := d n (by omega)
    cases ef : f n with
    | false =>
      cases eg : g n with
      | false =>
        rw [ef, eg] at h2
        rw [mr_ct_f h2, mr_ct_f ef, mr_ct_f eg, h1]
      | true =>
        rw [ef, eg] at h2
        rw [mr_ct_t h2, mr_ct_f ef, mr_ct_t eg, h1]; omega
    | true =>
      cases eg : g n with
      | false =>
        rw [ef, eg] at h2
        rw [mr_ct_t h2, mr_ct_t ef, mr_ct_f eg, h1]; omega
      | true => exact (h3 ef eg).elim
theorem mr_ct_0 {f : Nat → Bool} : ∀ n, mr_ct f n = 0 → ∀ i, i < n → f i = false := by
  intro n
  induction n with
  | zero => intro _ i hi; omega
  | succ n ih =>
    intro h i hi
    cases ef : f n with
    | true => rw [mr_ct_t ef] at h; omega
    | false =>
      rw [mr_ct_f ef] at h
      by_cases e : i = n
      · rw [e]; exact ef
      · exact ih h i (by omega)
theorem mr_ct_z {f : Nat → Bool} : ∀ n, (∀ i, i < n → f i = false) → mr_ct f n = 0 := by
  intro n
  induction n with
  | zero => intro _; rfl
  | succ n ih =>
    intro h
    rw [mr_ct_f (h n (by omega))]
    exact ih (fun i hi => h i (by omega))
theorem mr_ct_lt {f g : Nat → Bool} {j : Nat} : ∀ n, (∀ i, i < n → f i = true → g i = true) → j < n → f j = false → g j = true → mr_ct f n < mr_ct g n := by
  intro n
  induction n with
  | zero => intro _ h; omega
  | succ n ih =>
    intro h hj fj gj
    by_cases e : j = n
    · subst e
      rw [mr_ct_f fj, mr_ct_t gj]
      have := mr_ct_mono (f := f) (g := g) j (fun i hi => h i (by omega))
      omega
    · have h1 := ih (fun i hi => h i (by omega)) (by omega) fj gj
      have h2 := h n (by omega)
      by_cases e : f n = true
      · rw [mr_ct_t e, mr_ct_t (h2 e)]; omega
      · rw [mr_ct_f (Bool.eq_false_iff.mpr e), mr_ct_s]
        exact Nat.lt_of_lt_of_le h1 (Nat.le_add_right _ _)
theorem mr_ct_eq {f g : Nat → Bool} {n : Nat} (h : ∀ i, i < n → f i = true → g i = true) (hc : mr_ct g n ≤ mr_ct f n) : ∀ i, i < n → f i = g i := by
  intro i hi
  cases ef : f i with
  | true => rw [h i hi ef]
  | false =>
    cases eg : g i with
    | false => rfl
    | true =>
      have := mr_ct_lt n h hi ef eg
      omega
theorem mr_ct_monoN (f : Nat → Bool) {m : Nat} : ∀ n, m ≤ n → mr_ct f m ≤ mr_ct f n := by
  intro n
  induction n with
  | zero => intro h; have : m = 0 := by omega
            subst this; exact Nat.le_refl _
  | succ n ih =>
    intro h
    by_cases e : m = n + 1
    · subst e; exact Nat.le_refl _
    · rw [mr_ct_s]
      exact Nat.le_trans (ih (by omega)) (Nat.le_add_right _ _)
theorem mr_ct_ltN {f : Nat → Bool} {m n : Nat} (h : m < n) (e : f m = true) : mr_ct f m < mr_ct f n := by
  have h1 := mr_ct_monoN f (m := m + 1) n h
  rw [mr_ct_t e] at h1
  omega
theorem mr_ct_add (f : Nat → Bool) (m : Nat) : ∀ k, mr_ct f (m + k) = mr_ct f m + mr_ct (fun i => f (m + i)) k := by
  intro k
  induction k with
  | zero => rfl
  | succ k ih =>
    rw [← Nat.add_assoc, mr_ct_s, mr_ct_s, ih, Nat.add_assoc]
/-- the cell at a rank -/
theorem mr_ct_at {f : Nat → Bool} {r : Nat} : ∀ n, r < mr_ct f n → ∃ c, c < n ∧ f c = true ∧ mr_ct f c = r := by
  intro n
  induction n with
  | zero => intro h; exact absurd h (Nat.not_lt_zero r)
  | succ n ih =>
    intro h
    cases ef : f n with
    | false =>
      rw [mr_ct_f ef] at h
      obtain ⟨c, h1, h2, h3⟩ := ih h
      exact ⟨c, by omega, h2, h3⟩
    | true =>
      rw [mr_ct_t ef] at h
      by_cases e : r = mr_ct f n
      · exact ⟨n, by omega, ef, e.symm⟩
      · obtain ⟨c, h1, h2, h3⟩ := ih (by omega)
        exact ⟨c, by omega, h2, h3⟩
theorem mr_ct_inj {f : Nat → Bool} {a b : Nat} (ha : f a = true) (hb : f b = true) (h : mr_ct f a = mr_ct f b) : a = b := by
  rcases Nat.lt_trichotomy a b with h1 | h1 | h1
  · have := mr_ct_ltN h1 ha; omega
  · exact h1
  · have := mr_ct_ltN h1 hb; omega
/-! sizes of sets -/
def mr_pc (x : Int32) : Nat := mr_ct (bt x) 20
theorem mr_pc_0 : mr_pc 0 = 0 := mr_ct_z 20 (fun i _ => b_0 i)
theorem mr_pc_le (x : Int32) : mr_pc x ≤ 20 := mr_ct_le _ _
theorem mr_pc_sub {x y : Int32} (h : ∀ i, i < 20 → bt x i = true → bt y i = true) : mr_pc x ≤ mr_pc y := mr_ct_mono 20 h
theorem mr_pc_or {x y : Int32} (h : ∀ i, i < 20 → bt x i = true → bt y i = true → False) : mr_pc (x ||| y) = mr_pc x + mr_pc y :=
  mr_ct_or 20 (fun i _ => b_or x y i) h
theorem mr_pc_bit {c : Nat} (hc : c < 20) : mr_pc (mr_bit c) = 1 := by
  have h1 : mr_ct (bt (mr_bit c)) c = 0 := mr_ct_z c (fun i hi => mr_bit_ne (by omega) (by omega) (by omega))
  have h2 : mr_ct (bt (mr_bit c)) (c + 1) = 1 := by rw [mr_ct_t (mr_bit_self (by omega)), h1]
  have h3 := mr_ct_add (bt (mr_bit c)) (c + 1) (19 - c)
  have h4 : mr_ct (fun i => bt (mr_bit c) (c + 1 + i)) (19 - c) = 0 := mr_ct_z _ (fun i hi => mr_bit_ne (by omega) (by omega) (by omega))
  rw [h2, h4, show c + 1 + (19 - c) = 20 by omega] at h3
  exact h3
theorem mr_pc_zero {x : Int32} (hw : mr_W x) (h : mr_pc x = 0) : x = 0 :=
  mr_W_ext hw mr_W0 (fun i hi => by rw [mr_ct_0 20 h i hi, b_0])
theorem mr_pc_split (x y : Int32) : mr_pc x = mr_pc (x &&& y) + mr_pc (x &&& (y ^^^ (-1))) := by
  refine mr_ct_or 20 (fun i hi => ?_) (fun i hi h1 h2 => ?_)
  · rw [b_and, b_and, mr_not (by omega)]
    cases bt x i <;> cases bt y i <;> rfl
  · rw [b_and] at h1 h2
    rw [mr_not (by omega)] at h2
    cases hy : bt y i
    · rw [hy, Bool.and_false] at h1; exact absurd h1 (by decide)
    · rw [hy] at h2; cases hx : bt x i <;> rw [hx] at h2 <;> exact absurd h2 (by decide)
theorem mr_ne0 {x : Int32} {i : Nat} (h : bt x i = true) : x ≠ 0 := by
  intro e
  rw [e, b_0] at h
  exact absurd h (by decide)
theorem mr_ex {x : Int32} (hw : mr_W x) (h : x ≠ 0) : ∃ i, i < 20 ∧ bt x i = true := by
  refine Classical.byContradiction fun hn => h (mr_W_ext hw mr_W0 fun i hi => ?_)
  rw [b_0]
  exact Bool.eq_false_iff.mpr fun e => hn ⟨i, hi, e⟩
theorem mr_eq0 {x : Int32} (hw : mr_W x) (h : ∀ i, i < 20 → bt x i = false) : x = 0 :=
  mr_W_ext hw mr_W0 fun i hi => by rw [h i hi, b_0]
/-! the lowest bit -/
theorem mr_low {x : Int32} {i : Nat} (hi : i < 32) : bt (x &&& -x) i = true ↔ bt x i = true ∧ ∀ j, j < i → bt x j = false := by
  unfold bt
  rw [Int32.toBitVec_and, BitVec.getLsbD_and, Int32.toBitVec_neg, BitVec.getLsbD_neg]
  cases x.toBitVec.getLsbD i
  · simp
  · simp [hi]
theorem mr_clr {x : Int32} {i : Nat} (hi : i < 32) : bt (x &&& (x - 1)) i = true ↔ bt x i = true ∧ ∃ j, j < i ∧ bt x j = true := by
  unfold bt
  rw [Int32.toBitVec_and, BitVec.getLsbD_and, Int32.toBitVec_sub, show (1 : Int32).toBitVec = 1#32 from rfl, ← BitVec.not_neg, BitVec.getLsbD_not, BitVec.getLsbD_neg]
  cases x.toBitVec.getLsbD i
  · simp
  · simp [hi]
theorem mr_least {x : Int32} (hw : mr_W x) (h : x ≠ 0) : ∃ c, c < 20 ∧ bt x c = true ∧ ∀ j, j < c → bt x j = false := by
  obtain ⟨i, hi, e⟩ := mr_ex hw h
  obtain ⟨c, h1, h2⟩ := pk_least (fun c => bt x c = true) ⟨i, e⟩
  exact ⟨c, mr_W_lt hw h1, h1, fun j hj => Bool.eq_false_iff.mpr (h2 j hj)⟩
theorem mr_low_eq {x : Int32} {c : Nat} (hc : c < 20) (h1 : bt x c = true) (h2 : ∀ j, j < c → bt x j = false) : x &&& -x = mr_bit c := by
  apply b_ext
  intro i hi
  rw [Bool.eq_iff_iff, mr_low hi, mr_bit_iff (by omega) hi]
  constructor
  · intro h
    rcases Nat.lt_trichotomy i c with h3 | h3 | h3
    · rw [h2 i h3] at h; exact absurd h.1 (by decide)
    · exact h3
    · have := h.2 c h3; rw [h1] at this; exact absurd this (by decide)
  · intro h; subst h; exact ⟨h1, h2⟩
theorem mr_clr_pc {x : Int32} (hw : mr_W x) (h : x ≠ 0) : mr_pc (x &&& (x - 1)) + 1 = mr_pc x := by
  obtain ⟨c, hc, h1, h2⟩ := mr_least hw h
  have e : x = (x &&& (x - 1)) ||| mr_bit c := by
    apply b_ext
    intro i hi
    rw [Bool.eq_iff_iff, b_or, Bool.or_eq_true, mr_clr hi, mr_bit_iff (by omega) hi]
    constructor
    · intro h
      rcases Nat.lt_trichotomy i c with h3 | h3 | h3
      · rw [h2 i h3] at h; exact absurd h (by decide)
      · exact Or.inr h3
      · exact Or.inl ⟨h, c, h3, h1⟩
    · intro h
      rcases h with h | h
      · exact h.1
      · rw [h]; exact h1
  have h3 := mr_pc_or (x := x &&& (x - 1)) (y := mr_bit c) (fun i hi a b => by
    rw [mr_clr (by omega)] at a
    rw [mr_bit_iff (by omega) (by omega)] at b
    obtain ⟨_, j, hj, e⟩ := a
    rw [h2 j (by omega)] at e
    exact absurd e (by decide))
  rw [← e, mr_pc_bit hc] at h3
  exact h3.symm
end
section
/-! the reference's count of bits -/
def mr_q (n k : Nat) : Nat := mr_ct (fun i => n.testBit i) k
theorem mr_q_split (n k : Nat) : mr_q n (8 + k) = mr_q (n % 256) 8 + mr_q (n / 256) k := by
  unfold mr_q
  rw [mr_ct_add]
  have h1 : mr_ct (fun i => n.testBit i) 8 = mr_ct (fun i => (n % 256).testBit i) 8 := mr_ct_congr (fun i hi => by
    show n.testBit i = (n % 2 ^ 8).testBit i
    rw [Nat.testBit_mod_two_pow, decide_eq_true hi, Bool.true_and])
  have h2 : mr_ct (fun i => n.testBit (8 + i)) k = mr_ct (fun i => (n / 256).testBit i) k := mr_ct_congr (fun i hi => by
    show n.testBit (8 + i) = (n / 2 ^ 8).testBit i
    rw [Nat.testBit_div_two_pow, Nat.add_comm])
  rw [h1, h2]
theorem mr_and256 (a y m k : Nat) (ha : a < 256) (hm : m < 256) : (a + 256 * y) &&& (m + 256 * k) = (a &&& m) + 256 * (y &&& k) := by
  have h1 : ((a + 256 * y) &&& (m + 256 * k)) / 256 = y &&& k := by
    show ((a + 256 * y) &&& (m + 256 * k)) / 2 ^ 8 = y &&& k
    rw [Nat.and_div_two_pow, show (a + 256 * y) / 2 ^ 8 = y by omega, show (m + 256 * k) / 2 ^ 8 = k by omega]
  have h2 : ((a + 256 * y) &&& (m + 256 * k)) % 256 = a &&& m := by
    show ((a + 256 * y) &&& (m + 256 * k)) % 2 ^ 8 = a &&& m
    rw [Nat.and_mod_two_pow, show (a + 256 * y) % 2 ^ 8 = a by omega, show (m + 256 * k) % 2 ^ 8 = m by omega]
  have h3 := Nat.div_add_mod ((a + 256 * y) &&& (m + 256 * k)) 256
  rw [h1, h2] at h3
  rw [← h3, Nat.add_comm]
def mr_s1 (m n : Nat) : Nat := (n &&& m) + (n / 2 &&& m)
def mr_s2 (m n : Nat) : Nat := (n &&& m) + (n / 4 &&& m)
def mr_s4 (m n : Nat) : Nat := (n &&& m) + (n / 16 &&& m)
theorem mr_m1 : ∀ a, a < 256 → ∀ b, b < 2 → ((a / 2 + 128 * b) &&& 85) = (a / 2 &&& 85) := by decide +kernel
theorem mr_m2 : ∀ a, a < 256 → ∀ b, b < 4 → ((a / 4 + 64 * b) &&& 51) = (a / 4 &&& 51) := by decide +kernel
theorem mr_m4 : ∀ a, a < 256 → ∀ b, b < 16 → ((a / 16 + 16 * b) &&& 15) = (a / 16 &&& 15) := by decide +kernel
theorem mr_s1_step (k lo h : Nat) (hl : lo < 256) : mr_s1 (85 + 256 * k) (lo + 256 * h) = mr_s1 85 lo + 256 * mr_s1 k h := by
  unfold mr_s1
  rw [show (lo + 256 * h) / 2 = (lo / 2 + 128 * (h % 2)) + 256 * (h / 2) by omega, mr_and256 lo h 85 k hl (by decide), mr_and256 _ _ 85 k (by omega) (by decide), mr_m1 lo hl (h % 2) (by omega)]
  omega
theorem mr_s2_step (k lo h : Nat) (hl : lo < 256) : mr_s2 (51 + 256 * k) (lo + 256 * h) = mr_s2 51 lo + 256 * mr_s2 k h := by
  unfold mr_s2
  rw [show (lo + 256 * h) / 4 = (lo / 4 + 64 * (h % 4)) + 256 * (h / 4) by omega, mr_and256 lo h 51 k hl (by decide), mr_and256 _ _ 51 k (by omega) (by decide), mr_m2 lo hl (h % 4) (by omega)]
  omega
theorem mr_s4_step (k lo h : Nat) (hl : lo < 256) : mr_s4 (15 + 256 * k) (lo + 256 * h) = mr_s4 15 lo + 256 * mr_s4 k h := by
  unfold mr_s4
  rw [show (lo + 256 * h) / 16 = (lo / 16 + 16 * (h % 16)) + 256 * (h / 16) by omega, mr_and256 lo h 15 k hl (by decide), mr_and256 _ _ 15 k (by omega) (by decide), mr_m4 lo hl (h % 16) (by omega)]
  omega
theorem mr_byte : ∀ a, a < 256 → mr_s1 85 a < 256 ∧ mr_s2 51 (mr_s1 85 a) < 256 ∧ mr_s4 15 (mr_s2 51 (mr_s1 85 a)) < 256 ∧ mr_s4 15 (mr_s2 51 (mr_s1 85 a)) = mr_q a 8 := by decide +kernel
theorem mr_nib : ∀ a, a < 16 → mr_s4 15 (mr_s2 3 (mr_s1 5 a)) < 256 ∧ mr_s4 15 (mr_s2 3 (mr_s1 5 a)) = mr_q a 4 := by decide +kernel
theorem mr_swar (n : Nat) (hn : n < 2 ^ 20) : ∃ e, e = mr_s4 986895 (mr_s2 209715 (mr_s1 349525 n)) ∧ (e &&& 255) + (e / 256 &&& 255) + e / 65536 = mr_q n 20 ∧ e < 2 ^ 24 := by
  have hq : mr_q n 20 = mr_q (n % 256) 8 + (mr_q (n / 256 % 256) 8 + mr_q (n / 65536) 4) := by
    rw [mr_q_split n 12, mr_q_split (n / 256) 4, Nat.div_div_eq_div_mul]
  obtain ⟨a1, a2, a3, a4⟩ := mr_byte (n % 256) (by omega)
  obtain ⟨b1, b2, b3, b4⟩ := mr_byte (n / 256 % 256) (by omega)
  obtain ⟨c3, c4⟩ := mr_nib (n / 65536) (by omega)
  have e1 : mr_s1 349525 n = mr_s1 85 (n % 256) + 256 * (mr_s1 85 (n / 256 % 256) + 256 * mr_s1 5 (n / 65536)) := by
    have h := mr_s1_step (85 + 256 * 5) (n % 256) (n / 256 % 256 + 256 * (n / 65536)) (by omega)
    rw [mr_s1_step 5 (n / 256 % 256) (n / 65536) (by omega), show n % 256 + 256 * (n / 256 % 256 + 256 * (n / 65536)) = n by omega] at h
    exact h
  have e2 : mr_s2 209715 (mr_s1 349525 n) = mr_s2 51 (mr_s1 85 (n % 256)) + 256 * (mr_s2 51 (mr_s1 85 (n / 256 % 256)) + 256 * mr_s2 3 (mr_s1 5 (n / 65536))) := by
    rw [e1]
    have h := mr_s2_step (51 + 256 * 3) (mr_s1 85 (n % 256)) (mr_s1 85 (n / 256 % 256) + 256 * mr_s1 5 (n / 65536)) a1
    rw [mr_s2_step 3 _ _ b1] at h
    exact h
  have e4 : mr_s4 986895 (mr_s2 209715 (mr_s1 349525 n)) = mr_q (n % 256) 8 + 256 * (mr_q (n / 256 % 256) 8 + 256 * mr_q (n / 65536) 4) := by
    rw [e2, ← a4, ← b4, ← c4]
    have h := mr_s4_step (15 + 256 * 15) (mr_s2 51 (mr_s1 85 (n % 256))) (mr_s2 51 (mr_s1 85 (n / 256 % 256)) + 256 * mr_s2 3 (mr_s1 5 (n / 65536))) a2
    rw [mr_s4_step 15 _ _ b2] at h
    exact h
  refine ⟨_, rfl, ?_, ?_⟩
  · rw [e4, hq]
    have x1 : mr_q (n % 256) 8 ≤ 8 := mr_ct_le _ 8
    have x2 : mr_q (n / 256 % 256) 8 ≤ 8 := mr_ct_le _ 8
    generalize mr_q (n % 256) 8 = A at *
    generalize mr_q (n / 256 % 256) 8 = B at *
    generalize mr_q (n / 65536) 4 = C at *
    rw [show (255 : Nat) = 2 ^ 8 - 1 by decide, Nat.and_two_pow_sub_one_eq_mod, Nat.and_two_pow_sub_one_eq_mod]
    omega
  · rw [e4]
    have x1 : mr_q (n % 256) 8 ≤ 8 := mr_ct_le _ 8
    have x2 : mr_q (n / 256 % 256) 8 ≤ 8 := mr_ct_le _ 8
    have x3 : mr_q (n / 65536) 4 ≤ 4 := mr_ct_le _ 4
    omega
theorem mr_and_le (a b : Nat) : a &&& b ≤ b := Nat.and_le_right
/-- the reference's count is the size of the set -/
theorem mr_ybits {x : Int32} (hw : mr_W x) {post : Int32 → Prop} (h : post (nI (mr_pc x))) :
    ∀ a : Int32, a = (x &&& 349525) + ((x >>> ((1 : Int32) &&& 31)) &&& 349525) → ∀ b : Int32, b = (a &&& 209715) + ((a >>> ((2 : Int32) &&& 31)) &&& 209715) →
    ∀ c : Int32, c = (b &&& 986895) + ((b >>> ((4 : Int32) &&& 31)) &&& 986895) → post (((c &&& 255) + ((c >>> ((8 : Int32) &&& 31)) &&& 255)) + (c >>> ((16 : Int32) &&& 31))) := by
  obtain ⟨n, hn, hx⟩ : ∃ n : Nat, n < 2 ^ 20 ∧ x = nI n := by
    refine ⟨x.toBitVec.toNat, Nat.lt_pow_two_of_testBit _ (fun i hi => hw i hi), ?_⟩
    apply Int32.toBitVec_inj.mp
    apply BitVec.eq_of_toNat_eq
    rw [pk_tn x.toBitVec.isLt]
  have hp : mr_pc x = mr_q n 20 := mr_ct_congr (fun i hi => by
    show x.toBitVec.toNat.testBit i = n.testBit i
    rw [hx, pk_tn (by omega)])
  intro a ha b hb c hc
  have l1 : mr_s1 349525 n < 2 ^ 30 := by
    have := mr_and_le n 349525
    have := mr_and_le (n / 2) 349525
    unfold mr_s1; omega
  have l2 : mr_s2 209715 (mr_s1 349525 n) < 2 ^ 30 := by
    have := mr_and_le (mr_s1 349525 n) 209715
    have := mr_and_le (mr_s1 349525 n / 4) 209715
    unfold mr_s2; omega
  have ea : a = nI (mr_s1 349525 n) := by
    rw [ha, hx, pk_shrN (by omega) ((1 : Int32) &&& 31) 1 (by decide)]
    show (nI n &&& nI 349525) + (nI (n / 2 ^ 1) &&& nI 349525) = _
    rw [nx_and, nx_and, nI_add]
    rfl
  have eb : b = nI (mr_s2 209715 (mr_s1 349525 n)) := by
    rw [hb, ea, pk_shrN (by omega) ((2 : Int32) &&& 31) 2 (by decide)]
    show (nI _ &&& nI 209715) + (nI (_ / 2 ^ 2) &&& nI 209715) = _
    rw [nx_and, nx_and, nI_add]
    rfl
  have ec : c = nI (mr_s4 986895 (mr_s2 209715 (mr_s1 349525 n))) := by
    rw [hc, eb, pk_shrN (by omega) ((4 : Int32) &&& 31) 4 (by decide)]
    show (nI _ &&& nI 986895) + (nI (_ / 2 ^ 4) &&& nI 986895) = _
    rw [nx_and, nx_and, nI_add]
    rfl
  obtain ⟨e, he, h1, h2⟩ := mr_swar n hn
  rw [← he] at ec
  rw [ec, pk_shrN (by omega) ((8 : Int32) &&& 31) 8 (by decide), pk_shrN (by omega) ((16 : Int32) &&& 31) 16 (by decide)]
  have ef : ((nI e &&& 255) + (nI (e / 2 ^ 8) &&& 255)) + nI (e / 2 ^ 16) = nI (mr_pc x) := by
    show ((nI e &&& nI 255) + (nI (e / 2 ^ 8) &&& nI 255)) + nI (e / 2 ^ 16) = nI (mr_pc x)
    rw [nx_and, nx_and, nI_add, nI_add, hp, ← h1]
  rw [ef]
  exact h
end
section
/-! the field: neighbours, covered cells, the edge, closed sets -/
def mr_acc (P : Nat → Bool) : Nat → Int32
  | 0 => 0
  | n + 1 => if P n = true then mr_acc P n ||| mr_bit n else mr_acc P n
theorem mr_acc_t {P : Nat → Bool} {n : Nat} (h : P n = true) : mr_acc P (n + 1) = mr_acc P n ||| mr_bit n := if_pos h
theorem mr_acc_f {P : Nat → Bool} {n : Nat} (h : P n = false) : mr_acc P (n + 1) = mr_acc P n := if_neg (by rw [h]; decide)
theorem mr_acc_bt (P : Nat → Bool) : ∀ n, n ≤ 32 → ∀ i, i < 32 → bt (mr_acc P n) i = (decide (i < n) && P i) := by
  intro n
  induction n with
  | zero => intro _ i _; rw [show mr_acc P 0 = 0 from rfl, b_0, decide_eq_false (Nat.not_lt_zero i)]; rfl
  | succ n ih =>
    intro hn i hi
    have h := ih (by omega) i hi
    cases e : P n with
    | true =>
      rw [mr_acc_t e, b_or, h, mr_bit_bt (by omega) hi]
      by_cases q : i = n
      · subst q
        rw [e, decide_eq_true (rfl : i = i), decide_eq_true (by omega : i < i + 1)]
        cases decide (i < i) <;> rfl
      · rw [decide_eq_false q, Bool.or_false, show decide (i < n + 1) = decide (i < n) from decide_eq_decide.mpr (by omega)]
    | false =>
      rw [mr_acc_f e, h]
      by_cases q : i = n
      · subst q
        rw [e, Bool.and_false, Bool.and_false]
      · rw [show decide (i < n + 1) = decide (i < n) from decide_eq_decide.mpr (by omega)]
theorem mr_acc20 (P : Nat → Bool) {i : Nat} (hi : i < 20) : bt (mr_acc P 20) i = P i := by
  rw [mr_acc_bt P 20 (by omega) i (by omega), decide_eq_true hi, Bool.true_and]
theorem mr_acc_W (P : Nat → Bool) {n : Nat} (hn : n ≤ 20) : mr_W (mr_acc P n) := fun i h => by
  rcases Nat.lt_or_ge i 32 with h1 | h1
  · rw [mr_acc_bt P n (by omega) i h1, decide_eq_false (by omega)]; rfl
  · exact b_big h1
def mr_adj (c d : Nat) : Bool := decide (c ≠ d ∧ c / 5 ≤ d / 5 + 1 ∧ d / 5 ≤ c / 5 + 1 ∧ c % 5 ≤ d % 5 + 1 ∧ d % 5 ≤ c % 5 + 1)
theorem mr_adj_s (c d : Nat) : mr_adj c d = mr_adj d c := decide_eq_decide.mpr (by constructor <;> (rintro ⟨a, b, c, d, e⟩; exact ⟨fun z => a z.symm, c, b, e, d⟩))
def mr_nb (c : Nat) : Int32 := if c < 20 then mr_acc (mr_adj c) 20 else 0
theorem mr_nb_bt {c d : Nat} (hc : c < 20) (hd : d < 20) : bt (mr_nb c) d = mr_adj c d := by
  unfold mr_nb
  rw [if_pos hc, mr_acc20 _ hd]
theorem mr_nb_W (c : Nat) : mr_W (mr_nb c) := by
  unfold mr_nb
  split
  · exact mr_acc_W _ (by omega)
  · exact mr_W0
theorem mr_nb_s {c d : Nat} (hc : c < 20) (hd : d < 20) : bt (mr_nb c) d = bt (mr_nb d) c := by
  rw [mr_nb_bt hc hd, mr_nb_bt hd hc, mr_adj_s]
def mr_cov (cl : Nat → Int32) : Int32 := mr_acc (fun c => decide (cl c = -1)) 20
theorem mr_cov_bt {cl : Nat → Int32} {i : Nat} (hi : i < 20) : bt (mr_cov cl) i = decide (cl i = -1) := mr_acc20 _ hi
theorem mr_cov_t {cl : Nat → Int32} {i : Nat} (hi : i < 20) : bt (mr_cov cl) i = true ↔ cl i = -1 := by
  rw [mr_cov_bt hi]; exact decide_eq_true_iff
theorem mr_cov_W (cl : Nat → Int32) : mr_W (mr_cov cl) := mr_acc_W _ (by omega)
/-- the covered cells around a cell -/
def mr_nc (cl : Nat → Int32) (c : Nat) : Int32 := mr_nb c &&& mr_cov cl
theorem mr_nc_W (cl : Nat → Int32) (c : Nat) : mr_W (mr_nc cl c) := mr_W_and (mr_nb_W c)
theorem mr_nc_bt {cl : Nat → Int32} {c i : Nat} : bt (mr_nc cl c) i = true ↔ bt (mr_nb c) i = true ∧ bt (mr_cov cl) i = true := by
  unfold mr_nc
  rw [b_and, Bool.and_eq_true]
def mr_egA (cl : Nat → Int32) : Nat → Int32
  | 0 => 0
  | n + 1 => if cl n = -1 then mr_egA cl n else mr_egA cl n ||| mr_nc cl n
def mr_edge (cl : Nat → Int32) : Int32 := mr_egA cl 20
theorem mr_egA_W (cl : Nat → Int32) : ∀ n, mr_W (mr_egA cl n) := by
  intro n
  induction n with
  | zero => exact mr_W0
  | succ n ih =>
    unfold mr_egA
    split
    · exact ih
    · exact mr_W_or ih (mr_nc_W cl n)
theorem mr_egA_bt {cl : Nat → Int32} {i : Nat} : ∀ n, bt (mr_egA cl n) i = true ↔ ∃ c, c < n ∧ cl c ≠ -1 ∧ bt (mr_nc cl c) i = true := by
  intro n
  induction n with
  | zero =>
    rw [show mr_egA cl 0 = 0 from rfl, b_0]
    exact ⟨fun h => absurd h (by decide), fun ⟨c, h, _⟩ => absurd h (Nat.not_lt_zero c)⟩
  | succ n ih =>
    by_cases e : cl n = -1
    · rw [show mr_egA cl (n + 1) = mr_egA cl n from if_pos e, ih]
      constructor
      · rintro ⟨c, h1, h2, h3⟩; exact ⟨c, by omega, h2, h3⟩
      · rintro ⟨c, h1, h2, h3⟩
        refine ⟨c, ?_, h2, h3⟩
        rcases Nat.lt_or_ge c n with q | q
        · exact q
        · have : c = n := by omega
          subst this; exact absurd e h2
    · rw [show mr_egA cl (n + 1) = mr_egA cl n ||| mr_nc cl n from if_neg e, b_or, Bool.or_eq_true, ih]
      constructor
      · rintro (⟨c, h1, h2, h3⟩ | h)
        · exact ⟨c, by omega, h2, h3⟩
        · exact ⟨n, by omega, e, h⟩
      · rintro ⟨c, h1, h2, h3⟩
        rcases Nat.lt_or_ge c n with q | q
        · exact Or.inl ⟨c, q, h2, h3⟩
        · have : c = n := by omega
          subst this; exact Or.inr h3
theorem mr_edge_W (cl : Nat → Int32) : mr_W (mr_edge cl) := mr_egA_W cl 20
theorem mr_edge_bt {cl : Nat → Int32} {i : Nat} : bt (mr_edge cl) i = true ↔ ∃ c, c < 20 ∧ cl c ≠ -1 ∧ bt (mr_nc cl c) i = true := mr_egA_bt 20
theorem mr_edge_cov {cl : Nat → Int32} {i : Nat} (h : bt (mr_edge cl) i = true) : bt (mr_cov cl) i = true := by
  obtain ⟨c, _, _, h3⟩ := mr_edge_bt.mp h
  exact (mr_nc_bt.mp h3).2
/-- as the reference asks it -/
theorem mr_edge_y {cl : Nat → Int32} {i : Nat} (hi : i < 20) (hc : cl i = -1) : bt (mr_edge cl) i = true ↔ ¬ mr_nb i &&& (mr_cov cl ^^^ (-1)) = 0 := by
  have hw : mr_W (mr_nb i &&& (mr_cov cl ^^^ (-1))) := mr_W_and (mr_nb_W i)
  rw [mr_edge_bt]
  constructor
  · rintro ⟨c, h1, h2, h3⟩
    have h4 := mr_nc_bt.mp h3
    refine mr_ne0 (i := c) ?_
    rw [b_and, mr_not (by omega), mr_nb_s hi h1, h4.1, mr_cov_bt h1, decide_eq_false h2]
    rfl
  · intro h
    obtain ⟨c, h1, h2⟩ := mr_ex hw h
    rw [b_and, mr_not (by omega), Bool.and_eq_true] at h2
    refine ⟨c, h1, fun e => ?_, mr_nc_bt.mpr ⟨?_, (mr_cov_t hi).mpr hc⟩⟩
    · rw [(mr_cov_t h1).mpr e] at h2; exact absurd h2.2 (by decide)
    · rw [mr_nb_s h1 hi]; exact h2.1
/-! closed sets -/
def mr_Cl (cl : Nat → Int32) (S : Int32) : Prop := ∀ c, c < 20 → cl c ≠ -1 → ∀ j, bt (mr_nc cl c) j = true → bt S j = true → ∀ i, bt (mr_nc cl c) i = true → bt S i = true
def mr_lkA (cl : Nat → Int32) (s : Int32) : Nat → Int32
  | 0 => s
  | n + 1 => if cl n = -1 then mr_lkA cl s n else if mr_nc cl n &&& s = 0 then mr_lkA cl s n else mr_lkA cl s n ||| mr_nc cl n
def mr_lk (cl : Nat → Int32) (s : Int32) : Int32 := mr_lkA cl s 20
theorem mr_lkA_W {cl : Nat → Int32} {s : Int32} (h : mr_W s) : ∀ n, mr_W (mr_lkA cl s n) := by
  intro n
  induction n with
  | zero => exact h
  | succ n ih =>
    unfold mr_lkA
    split
    · exact ih
    · split
      · exact ih
      · exact mr_W_or ih (mr_nc_W cl n)
theorem mr_meet {x y : Int32} (hx : mr_W x) : ¬ x &&& y = 0 ↔ ∃ j, bt x j = true ∧ bt y j = true := by
  constructor
  · intro h
    obtain ⟨j, _, h2⟩ := mr_ex (mr_W_and hx) h
    rw [b_and, Bool.and_eq_true] at h2
    exact ⟨j, h2⟩
  · rintro ⟨j, h1, h2⟩
    refine mr_ne0 (i := j) ?_
    rw [b_and, h1, h2]; rfl
theorem mr_lkA_bt {cl : Nat → Int32} {s : Int32} {i : Nat} : ∀ n, bt (mr_lkA cl s n) i = true ↔ bt s i = true ∨ ∃ c, c < n ∧ cl c ≠ -1 ∧ (∃ j, bt (mr_nc cl c) j = true ∧ bt s j = true) ∧ bt (mr_nc cl c) i = true := by
  intro n
  induction n with
  | zero =>
    exact ⟨fun h => Or.inl h, fun h => h.elim id fun ⟨c, h, _⟩ => absurd h (Nat.not_lt_zero c)⟩
  | succ n ih =>
    have up : (bt s i = true ∨ ∃ c, c < n ∧ cl c ≠ -1 ∧ (∃ j, bt (mr_nc cl c) j = true ∧ bt s j = true) ∧ bt (mr_nc cl c) i = true) → (bt s i = true ∨ ∃ c, c < n + 1 ∧ cl c ≠ -1 ∧ (∃ j, bt (mr_nc cl c) j = true ∧ bt s j = true) ∧ bt (mr_nc cl c) i = true) := by
      rintro (h | ⟨c, h1, h2⟩)
      · exact Or.inl h
      · exact Or.inr ⟨c, by omega, h2⟩
    have dn : ¬ (cl n ≠ -1 ∧ (∃ j, bt (mr_nc cl n) j = true ∧ bt s j = true) ∧ bt (mr_nc cl n) i = true) → (bt s i = true ∨ ∃ c, c < n + 1 ∧ cl c ≠ -1 ∧ (∃ j, bt (mr_nc cl c) j = true ∧ bt s j = true) ∧ bt (mr_nc cl c) i = true) → (bt s i = true ∨ ∃ c, c < n ∧ cl c ≠ -1 ∧ (∃ j, bt (mr_nc cl c) j = true ∧ bt s j = true) ∧ bt (mr_nc cl c) i = true) := by
      intro hn
      rintro (h | ⟨c, h1, h2⟩)
      · exact Or.inl h
      · by_cases q : c = n
        · subst q; exact absurd h2 hn
        · exact Or.inr ⟨c, by omega, h2⟩
    by_cases e : cl n = -1
    · rw [show mr_lkA cl s (n + 1) = mr_lkA cl s n from if_pos e, ih]
      exact ⟨up, dn (fun h => h.1 e)⟩
    · by_cases m : mr_nc cl n &&& s = 0
      · rw [show mr_lkA cl s (n + 1) = mr_lkA cl s n from (if_neg e).trans (if_pos m), ih]
        exact ⟨up, dn (fun h => (mr_meet (mr_nc_W cl n)).mpr h.2.1 m)⟩
      · rw [show mr_lkA cl s (n + 1) = mr_lkA cl s n ||| mr_nc cl n from (if_neg e).trans (if_neg m), b_or, Bool.or_eq_true, ih]
        constructor
        · rintro (h | h)
          · exact up h
          · exact Or.inr ⟨n, by omega, e, (mr_meet (mr_nc_W cl n)).mp m, h⟩
        · intro h
          by_cases q : bt (mr_nc cl n) i = true
          · exact Or.inr q
          · exact Or.inl (dn (fun z => q z.2.2) h)
theorem mr_lk_bt {cl : Nat → Int32} {s : Int32} {i : Nat} : bt (mr_lk cl s) i = true ↔ bt s i = true ∨ ∃ c, c < 20 ∧ cl c ≠ -1 ∧ (∃ j, bt (mr_nc cl c) j = true ∧ bt s j = true) ∧ bt (mr_nc cl c) i = true := mr_lkA_bt 20
theorem mr_lk_sub {cl : Nat → Int32} {s T : Int32} (hT : mr_Cl cl T) (h : ∀ i, bt s i = true → bt T i = true) : ∀ i, bt (mr_lk cl s) i = true → bt T i = true := by
  intro i hi
  rcases mr_lk_bt.mp hi with q | ⟨c, h1, h2, ⟨j, h3, h4⟩, h5⟩
  · exact h i q
  · exact hT c h1 h2 j h3 (h j h4) i h5
theorem mr_lk_fix {cl : Nat → Int32} {s : Int32} (h : mr_lk cl s = s) : mr_Cl cl s := by
  intro c h1 h2 j h3 h4 i h5
  rw [← h]
  exact mr_lk_bt.mpr (Or.inr ⟨c, h1, h2, ⟨j, h3, h4⟩, h5⟩)
def mr_it (cl : Nat → Int32) (s : Int32) : Nat → Int32
  | 0 => s
  | r + 1 => mr_lk cl (mr_it cl s r)
def mr_close (cl : Nat → Int32) (s : Int32) : Int32 := mr_it cl s 20
theorem mr_it_W {cl : Nat → Int32} {s : Int32} (h : mr_W s) : ∀ r, mr_W (mr_it cl s r) := by
  intro r
  induction r with
  | zero => exact h
  | succ r ih => exact mr_lkA_W ih 20
theorem mr_it_sub {cl : Nat → Int32} {s T : Int32} (hT : mr_Cl cl T) (h : ∀ i, bt s i = true → bt T i = true) : ∀ r i, bt (mr_it cl s r) i = true → bt T i = true := by
  intro r
  induction r with
  | zero => exact h
  | succ r ih => exact mr_lk_sub hT ih
theorem mr_it_up {cl : Nat → Int32} {s : Int32} {i : Nat} (h : bt s i = true) : ∀ r, bt (mr_it cl s r) i = true := by
  intro r
  induction r with
  | zero => exact h
  | succ r ih => exact mr_lk_bt.mpr (Or.inl ih)
theorem mr_lk_grow {cl : Nat → Int32} {s : Int32} (hw : mr_W s) (h : mr_lk cl s ≠ s) : mr_pc s < mr_pc (mr_lk cl s) := by
  have hs : ∀ i, i < 20 → bt s i = true → bt (mr_lk cl s) i = true := fun i _ e => mr_lk_bt.mpr (Or.inl e)
  refine Nat.lt_of_not_le fun hl => h ?_
  exact (mr_W_ext hw (mr_lkA_W hw 20) (mr_ct_eq hs hl)).symm
theorem mr_it_fix {cl : Nat → Int32} {s : Int32} (hw : mr_W s) : ∀ r, mr_lk cl (mr_it cl s r) = mr_it cl s r ∨ r ≤ mr_pc (mr_it cl s r) := by
  intro r
  induction r with
  | zero => exact Or.inr (Nat.zero_le _)
  | succ r ih =>
    by_cases e : mr_lk cl (mr_it cl s r) = mr_it cl s r
    · left
      show mr_lk cl (mr_lk cl (mr_it cl s r)) = mr_lk cl (mr_it cl s r)
      rw [e, e]
    · right
      have := mr_lk_grow (mr_it_W hw r) e
      have h2 := ih.resolve_left e
      show r + 1 ≤ mr_pc (mr_lk cl (mr_it cl s r))
      omega
theorem mr_close_fix {cl : Nat → Int32} {s : Int32} (hw : mr_W s) : mr_lk cl (mr_close cl s) = mr_close cl s := by
  refine Classical.byContradiction fun e => ?_
  have h1 := (mr_it_fix (cl := cl) hw 20).resolve_left e
  have h2 := mr_lk_grow (mr_it_W (cl := cl) hw 20) e
  have h3 := mr_pc_le (mr_lk cl (mr_it cl s 20))
  omega
theorem mr_close_Cl {cl : Nat → Int32} {s : Int32} (hw : mr_W s) : mr_Cl cl (mr_close cl s) := mr_lk_fix (mr_close_fix hw)
theorem mr_close_W {cl : Nat → Int32} {s : Int32} (hw : mr_W s) : mr_W (mr_close cl s) := mr_it_W hw 20
/-- the least closed set is the only one of its kind -/
theorem mr_close_u {cl : Nat → Int32} {s T : Int32} (hw : mr_W s) (hT : mr_W T) (h1 : mr_Cl cl T) (h2 : ∀ i, bt s i = true → bt T i = true) (h3 : ∀ U, mr_Cl cl U → (∀ i, bt s i = true → bt U i = true) → ∀ i, bt T i = true → bt U i = true) : T = mr_close cl s := by
  refine mr_W_ext hT (mr_close_W hw) fun i _ => ?_
  rw [Bool.eq_iff_iff]
  exact ⟨h3 _ (mr_close_Cl hw) (fun i h => mr_it_up h 20) i, mr_it_sub h1 h2 20 i⟩
theorem mr_diff_Cl {cl : Nat → Int32} {S T : Int32} (hT : mr_W T) (h1 : mr_Cl cl T) (h2 : mr_Cl cl S) : mr_Cl cl (T &&& (S ^^^ (-1))) := by
  have key : ∀ i, bt (T &&& (S ^^^ (-1))) i = true ↔ bt T i = true ∧ bt S i = false := by
    intro i
    rw [b_and, Bool.and_eq_true]
    constructor
    · rintro ⟨a, b⟩
      rw [mr_not (by have := mr_W_lt hT a; omega)] at b
      exact ⟨a, by cases h : bt S i <;> rw [h] at b <;> first | rfl | exact absurd b (by decide)⟩
    · rintro ⟨a, b⟩
      rw [mr_not (by have := mr_W_lt hT a; omega), b]
      exact ⟨a, rfl⟩
  intro c hc hs j hj hm i hi
  have hm' := (key j).mp hm
  refine (key i).mpr ⟨h1 c hc hs j hj hm'.1 i hi, ?_⟩
  refine Bool.eq_false_iff.mpr fun e => ?_
  have := h2 c hc hs i hi e j hj
  rw [hm'.2] at this
  exact absurd this (by decide)
theorem mr_edge_Cl (cl : Nat → Int32) : mr_Cl cl (mr_edge cl) := fun c hc hs _ _ _ i hi => mr_edge_bt.mpr ⟨c, hc, hs, hi⟩
/-- the group of a cell -/
def mr_K (cl : Nat → Int32) (i : Nat) : Int32 := mr_close cl (mr_bit i)
theorem mr_K_W {cl : Nat → Int32} {i : Nat} (hi : i < 20) : mr_W (mr_K cl i) := mr_close_W (mr_W_bit hi)
theorem mr_K_Cl {cl : Nat → Int32} {i : Nat} (hi : i < 20) : mr_Cl cl (mr_K cl i) := mr_close_Cl (mr_W_bit hi)
theorem mr_K_self {cl : Nat → Int32} {i : Nat} (hi : i < 20) : bt (mr_K cl i) i = true := mr_it_up (mr_bit_self (by omega)) 20
theorem mr_bit_sub {T : Int32} {i : Nat} (hi : i < 20) (h : bt T i = true) : ∀ j, bt (mr_bit i) j = true → bt T j = true := by
  intro j hj
  have hl := mr_W_lt (mr_W_bit hi) hj
  rw [mr_bit_iff (by omega) (by omega)] at hj
  rw [hj]; exact h
theorem mr_K_least {cl : Nat → Int32} {T : Int32} {i : Nat} (hi : i < 20) (hT : mr_Cl cl T) (h : bt T i = true) : ∀ j, bt (mr_K cl i) j = true → bt T j = true :=
  mr_it_sub hT (mr_bit_sub hi h) 20
theorem mr_K_eq {cl : Nat → Int32} {i j : Nat} (hi : i < 20) (h : bt (mr_K cl i) j = true) : mr_K cl j = mr_K cl i := by
  have hj := mr_W_lt (mr_K_W hi) h
  have a := mr_K_least hj (mr_K_Cl hi) h
  have b : bt (mr_K cl j) i = true := by
    refine Classical.byContradiction fun e => ?_
    have hd : mr_Cl cl (mr_K cl i &&& (mr_K cl j ^^^ (-1))) := mr_diff_Cl (mr_K_W hi) (mr_K_Cl hi) (mr_K_Cl hj)
    have h1 : bt (mr_K cl i &&& (mr_K cl j ^^^ (-1))) i = true := by
      rw [b_and, mr_not (by omega), mr_K_self hi, Bool.eq_false_iff.mpr e]; rfl
    have h2 := mr_K_least hi hd h1 j h
    rw [b_and, mr_not (by omega), mr_K_self hj] at h2
    rw [h] at h2; exact absurd h2 (by decide)
  refine mr_W_ext (mr_K_W hj) (mr_K_W hi) fun k _ => ?_
  rw [Bool.eq_iff_iff]
  exact ⟨a k, mr_K_least hi (mr_K_Cl hj) b k⟩
theorem mr_K_sym {cl : Nat → Int32} {i j : Nat} (hi : i < 20) (h : bt (mr_K cl i) j = true) : bt (mr_K cl j) i = true := by
  rw [mr_K_eq hi h]; exact mr_K_self hi
theorem mr_K_edge {cl : Nat → Int32} {i : Nat} (h : bt (mr_edge cl) i = true) : ∀ j, bt (mr_K cl i) j = true → bt (mr_edge cl) j = true :=
  mr_K_least (mr_W_lt (mr_edge_W cl) h) (mr_edge_Cl cl) h
/-- leaders: the first cells of groups -/
def mr_ld (cl : Nat → Int32) (i : Nat) : Bool := bt (mr_edge cl) i && decide (mr_ct (bt (mr_K cl i)) i = 0)
theorem mr_ld_iff {cl : Nat → Int32} {i : Nat} : mr_ld cl i = true ↔ bt (mr_edge cl) i = true ∧ ∀ j, j < i → bt (mr_K cl i) j = false := by
  unfold mr_ld
  rw [Bool.and_eq_true, decide_eq_true_iff]
  exact ⟨fun h => ⟨h.1, mr_ct_0 i h.2⟩, fun h => ⟨h.1, mr_ct_z i h.2⟩⟩
end
section
/-! the component's groups: what its loop keeps -/
def mr_G1 (cl : Nat → Int32) (lf : Int32) (k : Nat) (gs : Nat → Int32) : Prop :=
  ∀ g, g < k → mr_W (gs g) ∧ mr_Cl cl (gs g) ∧ ∀ i, bt (gs g) i = true → bt (mr_edge cl) i = true ∧ bt lf i = false ∧ gs g = mr_K cl i
def mr_GI (cl : Nat → Int32) (lf : Int32) (k : Nat) (gs : Nat → Int32) : Prop :=
  mr_W lf ∧ (∀ i, bt lf i = true → bt (mr_edge cl) i = true) ∧ mr_Cl cl lf ∧ mr_G1 cl lf k gs ∧
  (∀ g h, g < h → h < k → ∀ i, bt (gs g) i = true → bt (gs h) i = true → False) ∧
  (∀ i, bt (mr_edge cl) i = true → bt lf i = true ∨ ∃ g, g < k ∧ bt (gs g) i = true) ∧
  k = mr_ct (fun i => mr_ld cl i && !bt lf i) 20 ∧ mr_pc lf + k ≤ 20
theorem mr_GI0 (cl gs : Nat → Int32) : mr_GI cl (mr_edge cl) 0 gs := by
  refine ⟨mr_edge_W cl, fun i h => h, mr_edge_Cl cl, fun g h => absurd h (Nat.not_lt_zero g), fun g h _ hh => absurd hh (Nat.not_lt_zero h), fun i h => Or.inl h, ?_, by rw [Nat.add_zero]; exact mr_pc_le _⟩
  refine (mr_ct_z 20 fun i _ => ?_).symm
  show (mr_ld cl i && !bt (mr_edge cl) i) = false
  unfold mr_ld
  cases bt (mr_edge cl) i
  · rfl
  · exact Bool.and_false _
theorem mr_andn {x y : Int32} (hx : mr_W x) {i : Nat} : bt (x &&& (y ^^^ (-1))) i = true ↔ bt x i = true ∧ bt y i = false := by
  rw [b_and, Bool.and_eq_true]
  constructor
  · rintro ⟨a, b⟩
    rw [mr_not (by have := mr_W_lt hx a; omega)] at b
    exact ⟨a, by cases h : bt y i <;> rw [h] at b <;> first | rfl | exact absurd b (by decide)⟩
  · rintro ⟨a, b⟩
    rw [mr_not (by have := mr_W_lt hx a; omega), b]
    exact ⟨a, rfl⟩
theorem mr_GI_step {cl gs : Nat → Int32} {lf : Int32} {k b : Nat} (H : mr_GI cl lf k gs) (hb : b < 20) (h1 : bt lf b = true) (h2 : ∀ j, j < b → bt lf j = false) :
    mr_GI cl (lf &&& (mr_K cl b ^^^ (-1))) (k + 1) (upd gs k (mr_K cl b)) := by
  obtain ⟨w, e, c, g1, g2, g3, g4, g5⟩ := H
  have ks : ∀ i, bt (mr_K cl b) i = true → bt lf i = true := mr_K_least hb c h1
  have un : ∀ g, g < k → upd gs k (mr_K cl b) g = gs g := fun g hg => pk_un (by omega)
  refine ⟨mr_W_and w, fun i h => e i ((mr_andn w).mp h).1, mr_diff_Cl w c (mr_K_Cl hb), ?_, ?_, ?_, ?_, ?_⟩
  · intro g hg
    by_cases q : g = k
    · subst q
      rw [pk_us]
      refine ⟨mr_K_W hb, mr_K_Cl hb, fun i hi => ⟨e i (ks i hi), ?_, (mr_K_eq hb hi).symm⟩⟩
      refine Bool.eq_false_iff.mpr fun z => ?_
      rw [((mr_andn w).mp z).2] at hi
      exact absurd hi (by decide)
    · rw [un g (by omega)]
      obtain ⟨a1, a2, a3⟩ := g1 g (by omega)
      refine ⟨a1, a2, fun i hi => ⟨(a3 i hi).1, ?_, (a3 i hi).2.2⟩⟩
      refine Bool.eq_false_iff.mpr fun z => ?_
      have := ((mr_andn w).mp z).1
      rw [(a3 i hi).2.1] at this
      exact absurd this (by decide)
  · intro g h hg hh i h3 h4
    rw [un g (by omega)] at h3
    by_cases q : h = k
    · subst q
      rw [pk_us] at h4
      have := ks i h4
      rw [((g1 g (by omega)).2.2 i h3).2.1] at this
      exact absurd this (by decide)
    · rw [un h (by omega)] at h4
      exact g2 g h hg (by omega) i h3 h4
  · intro i hi
    rcases g3 i hi with q | ⟨g, q1, q2⟩
    · by_cases z : bt (mr_K cl b) i = true
      · exact Or.inr ⟨k, by omega, by rw [pk_us]; exact z⟩
      · exact Or.inl ((mr_andn w).mpr ⟨q, Bool.eq_false_iff.mpr z⟩)
    · exact Or.inr ⟨g, by omega, by rw [un g q1]; exact q2⟩
  · have h := mr_ct_or (f := fun i => mr_ld cl i && !bt lf i) (g := bt (mr_bit b)) (h := fun i => mr_ld cl i && !bt (lf &&& (mr_K cl b ^^^ (-1))) i) 20 (fun i hi => ?_) (fun i hi a1 a2 => ?_)
    · have hp : mr_ct (bt (mr_bit b)) 20 = 1 := mr_pc_bit hb
      rw [hp, ← g4] at h
      exact h.symm
    · show (mr_ld cl i && !bt (lf &&& (mr_K cl b ^^^ (-1))) i) = (mr_ld cl i && !bt lf i || bt (mr_bit b) i)
      rw [mr_bit_bt (by omega) (by omega), b_and, mr_not (by omega)]
      by_cases q : i = b
      · subst q
        have hl : mr_ld cl i = true := mr_ld_iff.mpr ⟨e i h1, fun j hj => Bool.eq_false_iff.mpr fun z => by
          have := ks j z
          rw [h2 j hj] at this
          exact absurd this (by decide)⟩
        rw [hl, h1, mr_K_self hb, decide_eq_true (rfl : i = i)]
        rfl
      · rw [decide_eq_false q, Bool.or_false]
        cases hl : mr_ld cl i with
        | false => rfl
        | true =>
          cases hf : bt lf i with
          | false => rfl
          | true =>
            have hk : bt (mr_K cl b) i = false := Bool.eq_false_iff.mpr fun z => by
              have h5 := mr_K_sym hb z
              have hlt : b < i := by
                rcases Nat.lt_trichotomy i b with r | r | r
                · rw [h2 i r] at hf; exact absurd hf (by decide)
                · exact absurd r q
                · exact r
              rw [(mr_ld_iff.mp hl).2 b hlt] at h5
              exact absurd h5 (by decide)
            rw [hk]
            rfl
    · have q := (mr_bit_iff (by omega) (by omega)).mp a2
      subst q
      have a3 : (mr_ld cl i && !bt lf i) = true := a1
      rw [h1, Bool.not_true, Bool.and_false] at a3
      exact absurd a3 (by decide)
  · have h3 := mr_pc_split lf (mr_K cl b)
    have h4 : mr_pc (mr_bit b) ≤ mr_pc (lf &&& mr_K cl b) := mr_pc_sub fun i hi z => by
      have q := (mr_bit_iff (by omega) (by omega)).mp z
      rw [q, b_and, h1, mr_K_self hb]; rfl
    rw [mr_pc_bit hb] at h4
    omega
/-- the cells at no shown one's side -/
def mr_rest (cl : Nat → Int32) : Int32 := mr_cov cl &&& (mr_edge cl ^^^ (-1))
theorem mr_rest_W (cl : Nat → Int32) : mr_W (mr_rest cl) := mr_W_and (mr_cov_W cl)
theorem mr_rest_bt {cl : Nat → Int32} {i : Nat} : bt (mr_rest cl) i = true ↔ bt (mr_cov cl) i = true ∧ bt (mr_edge cl) i = false := mr_andn (mr_cov_W cl)
theorem mr_rest_pc (cl : Nat → Int32) : mr_pc (mr_cov cl) = mr_pc (mr_edge cl) + mr_pc (mr_rest cl) := by
  have h := mr_pc_split (mr_cov cl) (mr_edge cl)
  rw [h]
  congr 1
  refine mr_ct_congr fun i hi => ?_
  rw [b_and]
  cases he : bt (mr_edge cl) i with
  | false => rw [Bool.and_false]
  | true => rw [mr_edge_cov he]; rfl
end
section
/-! the component: small methods and groups -/
section MX
variable {w cv gc rs ce mi dm df ck : Int32} {cl nr gs wy ww su sn ch ca sa : Nat → Int32}
theorem mx_bad1 {post : Int32 → Prop} {p : Int32} (hb : p < 0 ∨ nI 20 ≤ p) (h : post 1) : wpX_badCell post (w, cv, gc, rs, ce, mi, dm, df, ck, cl, nr, gs, wy, ww, su, sn, ch, ca, sa) p := by
  rcases hb with q | q
  · exact br_t q h
  · by_cases z : p < 0
    · exact br_t z h
    · exact br_f z (br_f (Int32.not_lt.mpr q) h)
theorem mx_bad0 {post : Int32 → Prop} {c : Nat} (hc : c < 20) (h : post 0) : wpX_badCell post (w, cv, gc, rs, ce, mi, dm, df, ck, cl, nr, gs, wy, ww, su, sn, ch, ca, sa) (nI c) :=
  br_f (nI_pos (by omega)) (br_t (nI_lt (b := 20) hc (by decide)) h)
theorem mx_bits_l {post : Int32 → Prop} : ∀ (d i m : Nat) (x : Int32), i + d = 20 → mr_W x → mr_pc x ≤ d → post (nI (m + mr_pc x)) →
    wX_bitsOf_7 post w cv gc rs ce mi dm df ck cl nr gs wy ww su sn ch ca sa (d + 1) (nI m) x (nI i) := by
  intro d
  induction d with
  | zero =>
    intro i m x hi hw hc hp
    have : mr_pc x = 0 := by omega
    rw [this] at hp
    exact pk_le 20 i (fun _ => hp) (fun h => absurd h (by omega))
  | succ d ih =>
    intro i m x hi hw hc hp
    refine pk_le 20 i (fun h => absurd h (by omega)) (fun _ => ?_)
    refine br_c (fun e => ?_) (fun e => ?_)
    · rw [e, mr_pc_0] at hp; exact hp
    · have h1 := mr_clr_pc hw e
      refine nm_e (nm_r (nI_1 m) (nm_r (nI_1 i) (ih (i + 1) (m + 1) _ (by omega) (mr_W_and hw) (by omega) ?_)))
      rw [show m + 1 + mr_pc (x &&& (x - 1)) = m + mr_pc x by omega]; exact hp
theorem mx_bits {post : Int32 → Prop} {x : Int32} (hw : mr_W x) (h : post (nI (mr_pc x))) : wpX_bitsOf post (w, cv, gc, rs, ce, mi, dm, df, ck, cl, nr, gs, wy, ww, su, sn, ch, ca, sa) x :=
  Exists.intro 21 (mx_bits_l 20 0 0 x rfl hw (mr_pc_le x) (by rw [Nat.zero_add]; exact h))
theorem mx_has {post : Int32 → Prop} {x : Int32} {c : Nat} (hc : c < 32) (h1 : bt x c = true → post 1) (h0 : bt x c = false → post 0) : wpX_has post (w, cv, gc, rs, ce, mi, dm, df, ck, cl, nr, gs, wy, ww, su, sn, ch, ca, sa) x (nI c) :=
  ek_if (mr_has hc) h1 (fun e => h0 (Bool.eq_false_iff.mpr e))
theorem mx_refresh_l {post : SX → Prop} (hp : post (w, mr_cov cl, gc, rs, ce, mi, dm, df, ck, cl, nr, gs, wy, ww, su, sn, ch, ca, sa)) : ∀ (d i : Nat), i + d = 20 →
    wX_refresh_7 post w gc rs ce mi dm df ck cl nr gs wy ww su sn ch ca sa (d + 1) (nI i) (mr_acc (fun c => decide (cl c = -1)) i) := by
  intro d
  induction d with
  | zero =>
    intro i hi
    have : i = 20 := by omega
    subst this
    exact pk_le 20 20 (fun _ => hp) (fun h => absurd h (by omega))
  | succ d ih =>
    intro i hi
    have hc : (nI i).toNatClampNeg = i := nI_clamp (by omega)
    have h1 := ih (i + 1) (by omega)
    refine pk_le 20 i (fun h => absurd h (by omega)) (fun _ => And.intro (pk_in i 20 (by omega)) ?_)
    refine br_c (fun e => ?_) (fun e => ?_)
    · rw [hc] at e
      rw [mr_acc_t (decide_eq_true e)] at h1
      exact nm_e (nm_r (nI_1 i) h1)
    · rw [hc] at e
      rw [mr_acc_f (decide_eq_false e)] at h1
      exact nm_r (nI_1 i) h1
theorem mx_refresh {post : SX → Prop} (hp : post (w, mr_cov cl, gc, rs, ce, mi, dm, df, ck, cl, nr, gs, wy, ww, su, sn, ch, ca, sa)) : wpX_refresh post (w, cv, gc, rs, ce, mi, dm, df, ck, cl, nr, gs, wy, ww, su, sn, ch, ca, sa) :=
  Exists.intro 21 (mx_refresh_l hp 20 0 rfl)
theorem mx_linked_l {post : Int32 → Prop} {s : Int32} (hp : post (mr_lk cl s)) : ∀ (d i : Nat), i + d = 20 →
    wX_linkedTo_4 post s w (mr_cov cl) gc rs ce mi dm df ck cl mr_nb gs wy ww su sn ch ca sa (d + 1) (mr_lkA cl s i) (nI i) := by
  intro d
  induction d with
  | zero =>
    intro i hi
    have : i = 20 := by omega
    subst this
    exact pk_le 20 20 (fun _ => hp) (fun h => absurd h (by omega))
  | succ d ih =>
    intro i hi
    have hc : (nI i).toNatClampNeg = i := nI_clamp (by omega)
    have h1 := ih (i + 1) (by omega)
    have hv : vp_in (nI i) 20 := pk_in i 20 (by omega)
    refine pk_le 20 i (fun h => absurd h (by omega)) (fun _ => And.intro hv ?_)
    refine br_c (fun e => ?_) (fun e => And.intro hv (br_c (fun m => ?_) (fun m => And.intro hv ?_)))
    · rw [hc] at e
      rw [show mr_lkA cl s (i + 1) = mr_lkA cl s i from if_pos e] at h1
      exact nm_r (nI_1 i) h1
    · rw [hc] at e m
      rw [show mr_lkA cl s (i + 1) = mr_lkA cl s i from (if_neg e).trans (if_pos m)] at h1
      exact nm_r (nI_1 i) h1
    · rw [hc] at e m
      rw [show mr_lkA cl s (i + 1) = mr_lkA cl s i ||| mr_nc cl i from (if_neg e).trans (if_neg m)] at h1
      exact nm_r (e' := mr_lkA cl s i ||| mr_nc cl i) (by rw [hc]; rfl) (nm_r (nI_1 i) h1)
theorem mx_linked {post : Int32 → Prop} {s : Int32} (hp : post (mr_lk cl s)) : wpX_linkedTo post (w, mr_cov cl, gc, rs, ce, mi, dm, df, ck, cl, mr_nb, gs, wy, ww, su, sn, ch, ca, sa) s :=
  Exists.intro 21 (mx_linked_l hp 20 0 rfl)
theorem mx_fg84 {post : SX → Prop} {J : Int32 → Int32 → Int32 → (Nat → Int32) → (Nat → Int32) → (Nat → Int32) → (Nat → Int32) → (Nat → Int32) → (Nat → Int32) → (Nat → Int32) → (Nat → Int32) → (Nat → Int32) → (Nat → Int32) → Prop}
    {s lf : Int32} {k : Nat} (hk : k < 20)
    (hp : J (lf &&& (mr_close cl s ^^^ (-1))) (nI (k + 1)) (nI (k + 1)) cl mr_nb (upd gs k (mr_close cl s)) wy ww su sn ch ca sa) : ∀ (d i : Nat), i + d = 20 →
    wX_findGroups_84 post J lf (nI k) w (mr_cov cl) (nI k) rs ce mi dm df ck cl mr_nb gs wy ww su sn ch ca sa (d + 1) (mr_it cl s i) (nI i) := by
  intro d
  induction d with
  | zero =>
    intro i hi
    have : i = 20 := by omega
    subst this
    refine pk_le 20 20 (fun _ => And.intro (pk_in k 20 hk) ?_) (fun h => absurd h (by omega))
    exact nm_r (e' := upd gs k (mr_close cl s)) (by rw [nI_clamp (by omega)]; rfl) (nm_r (nI_1 k) (nm_e (nm_r (nI_1 k) hp)))
  | succ d ih =>
    intro i hi
    refine pk_le 20 i (fun h => absurd h (by omega)) (fun _ => ?_)
    exact mx_linked (nm_r (nI_1 i) (ih (i + 1) (by omega)))
theorem mx_fg65 {post : SX → Prop} (hp : ∀ (k : Nat) (gs' : Nat → Int32), k ≤ 20 → mr_GI cl 0 k gs' → post (w, mr_cov cl, nI k, rs, ce, mi, dm, df, ck, cl, mr_nb, gs', wy, ww, su, sn, ch, ca, sa)) :
    ∀ (d k : Nat) (lf : Int32) (gs : Nat → Int32), k + d = 20 → mr_GI cl lf k gs →
    wX_findGroups_65 post w (mr_cov cl) rs ce mi dm df ck (d + 1) lf (nI k) (nI k) cl mr_nb gs wy ww su sn ch ca sa := by
  intro d
  induction d with
  | zero =>
    intro k lf gs hk H
    have hz : lf = 0 := mr_pc_zero H.1 (by have := H.2.2.2.2.2.2.2; omega)
    subst hz
    exact pk_le 20 k (fun _ => hp k gs (by omega) H) (fun h => absurd h (by omega))
  | succ d ih =>
    intro k lf gs hk H
    refine pk_le 20 k (fun h => absurd h (by omega)) (fun _ => br_c (fun e => ?_) (fun e => ?_))
    · subst e; exact hp k gs (by omega) H
    · obtain ⟨b, hb, h1, h2⟩ := mr_least H.1 e
      refine nm_r (mr_low_eq hb h1 h2) (Exists.intro 21 ?_)
      exact mx_fg84 (s := mr_bit b) (by omega) (ih (k + 1) _ _ (by omega) (mr_GI_step H hb h1 h2)) 20 0 rfl
theorem mx_fg9 {post : SX → Prop} (hp : ∀ (k : Nat) (gs' : Nat → Int32), k ≤ 20 → mr_GI cl 0 k gs' → post (w, mr_cov cl, nI k, mr_rest cl, ce, mi, dm, df, ck, cl, mr_nb, gs', wy, ww, su, sn, ch, ca, sa)) :
    ∀ (d i : Nat), i + d = 20 → wX_findGroups_9 post w (mr_cov cl) 0 rs ce mi dm df ck cl mr_nb gs wy ww su sn ch ca sa (d + 1) (mr_egA cl i) (nI i) := by
  intro d
  induction d with
  | zero =>
    intro i hi
    have : i = 20 := by omega
    subst this
    refine pk_le 20 20 (fun _ => ?_) (fun h => absurd h (by omega))
    exact nm_r (e' := mr_rest cl) rfl (Exists.intro 21 (mx_fg65 hp 20 0 (mr_edge cl) gs rfl (mr_GI0 cl gs)))
  | succ d ih =>
    intro i hi
    have hc : (nI i).toNatClampNeg = i := nI_clamp (by omega)
    have h1 := ih (i + 1) (by omega)
    have hv : vp_in (nI i) 20 := pk_in i 20 (by omega)
    refine pk_le 20 i (fun h => absurd h (by omega)) (fun _ => And.intro hv ?_)
    refine br_c (fun e => ?_) (fun e => And.intro hv ?_)
    · rw [hc] at e
      rw [show mr_egA cl (i + 1) = mr_egA cl i from if_pos e] at h1
      exact nm_r (nI_1 i) h1
    · rw [hc] at e
      rw [show mr_egA cl (i + 1) = mr_egA cl i ||| mr_nc cl i from if_neg e] at h1
      exact nm_r (e' := mr_egA cl i ||| mr_nc cl i) (by rw [hc]; rfl) (nm_r (nI_1 i) h1)
theorem mx_findGroups {post : SX → Prop} (hp : ∀ (k : Nat) (gs' : Nat → Int32), k ≤ 20 → mr_GI cl 0 k gs' → post (w, mr_cov cl, nI k, mr_rest cl, ce, mi, dm, df, ck, cl, mr_nb, gs', wy, ww, su, sn, ch, ca, sa)) :
    wpX_findGroups post (w, mr_cov cl, gc, rs, ce, mi, dm, df, ck, cl, mr_nb, gs, wy, ww, su, sn, ch, ca, sa) :=
  Exists.intro 21 (mx_fg9 hp 20 0 rfl)
end MX
end
section
/-! the reference: small methods and groups -/
def mr_ok (cl : Nat → Int32) : Prop := ∀ c, c < 20 → cl c = -1 ∨ ∃ k : Nat, k ≤ 8 ∧ cl c = nI k
theorem mr_n1 {k : Nat} (hk : k < 2 ^ 31) : nI k ≠ -1 := by
  intro e
  have := nI_pos (n := k) hk
  rw [e] at this
  exact this (by decide)
theorem mr_ge0 {cl : Nat → Int32} (h : mr_ok cl) {c : Nat} (hc : c < 20) : 0 ≤ cl c ↔ cl c ≠ -1 := by
  rcases h c hc with e | ⟨k, hk, e⟩
  · rw [e]; exact ⟨fun z => absurd z (by decide), fun z => absurd rfl z⟩
  · rw [e]; exact ⟨fun _ => mr_n1 (by omega), fun _ => nI_pos' (by omega)⟩
theorem mr_lt0 {cl : Nat → Int32} (h : mr_ok cl) {c : Nat} (hc : c < 20) : cl c < 0 ↔ cl c = -1 := by
  rcases h c hc with e | ⟨k, hk, e⟩
  · rw [e]; exact ⟨fun _ => rfl, fun _ => by decide⟩
  · rw [e]; exact ⟨fun z => absurd z (nI_pos (by omega)), fun z => absurd z (mr_n1 (by omega))⟩
/-! the sweep -/
def mr_swA (cl : Nat → Int32) (s : Int32) : Nat → Int32
  | 0 => s
  | n + 1 => if cl n = -1 then mr_swA cl s n else if mr_nb n &&& mr_swA cl s n = 0 then mr_swA cl s n else mr_swA cl s n ||| mr_nc cl n
def mr_sw (cl : Nat → Int32) (s : Int32) : Int32 := mr_swA cl s 20
def mr_In (cl : Nat → Int32) (s0 s : Int32) : Prop := mr_W s ∧ (∀ i, bt s i = true → bt (mr_cov cl) i = true) ∧ (∀ i, bt s0 i = true → bt s i = true) ∧ ∀ U, mr_Cl cl U → (∀ i, bt s0 i = true → bt U i = true) → ∀ i, bt s i = true → bt U i = true
theorem mr_swA_in {cl : Nat → Int32} {s0 s : Int32} (H : mr_In cl s0 s) : ∀ n, n ≤ 20 → mr_In cl s0 (mr_swA cl s n) ∧ (∀ i, bt s i = true → bt (mr_swA cl s n) i = true) ∧
    ∀ c, c < n → cl c ≠ -1 → (∃ j, bt (mr_nc cl c) j = true ∧ bt s j = true) → ∀ i, bt (mr_nc cl c) i = true → bt (mr_swA cl s n) i = true := by
  intro n
  induction n with
  | zero => intro _; exact ⟨H, fun i h => h, fun c h => absurd h (Nat.not_lt_zero c)⟩
  | succ n ih =>
    intro hn
    obtain ⟨⟨a1, a2, a3, a4⟩, b, c0⟩ := ih (by omega)
    by_cases e : cl n = -1
    · rw [show mr_swA cl s (n + 1) = mr_swA cl s n from if_pos e]
      refine ⟨⟨a1, a2, a3, a4⟩, b, fun c hc hs => ?_⟩
      by_cases q : c = n
      · subst q; exact absurd e hs
      · exact c0 c (by omega) hs
    · by_cases m : mr_nb n &&& mr_swA cl s n = 0
      · rw [show mr_swA cl s (n + 1) = mr_swA cl s n from (if_neg e).trans (if_pos m)]
        refine ⟨⟨a1, a2, a3, a4⟩, b, fun c hc hs hm => ?_⟩
        by_cases q : c = n
        · subst q
          obtain ⟨j, j1, j2⟩ := hm
          exact absurd m ((mr_meet (mr_nb_W c)).mpr ⟨j, (mr_nc_bt.mp j1).1, b j j2⟩)
        · exact c0 c (by omega) hs hm
      · rw [show mr_swA cl s (n + 1) = mr_swA cl s n ||| mr_nc cl n from (if_neg e).trans (if_neg m)]
        have key : ∀ i, bt (mr_swA cl s n ||| mr_nc cl n) i = true ↔ bt (mr_swA cl s n) i = true ∨ bt (mr_nc cl n) i = true := fun i => by rw [b_or, Bool.or_eq_true]
        refine ⟨⟨mr_W_or a1 (mr_nc_W cl n), fun i h => ?_, fun i h => (key i).mpr (Or.inl (a3 i h)), fun U hU hs i h => ?_⟩, fun i h => (key i).mpr (Or.inl (b i h)), fun c hc hs hm i h => ?_⟩
        · exact ((key i).mp h).elim (a2 i) fun z => (mr_nc_bt.mp z).2
        · rcases (key i).mp h with z | z
          · exact a4 U hU hs i z
          · obtain ⟨j, j1, j2⟩ := (mr_meet (mr_nb_W n)).mp m
            exact hU n (by omega) e j (mr_nc_bt.mpr ⟨j1, a2 j j2⟩) (a4 U hU hs j j2) i z
        · by_cases q : c = n
          · subst q; exact (key i).mpr (Or.inr h)
          · exact (key i).mpr (Or.inl (c0 c (by omega) hs hm i h))
theorem mr_sw_in {cl : Nat → Int32} {s0 s : Int32} (H : mr_In cl s0 s) : mr_In cl s0 (mr_sw cl s) := (mr_swA_in H 20 (by omega)).1
theorem mr_sw_Cl {cl : Nat → Int32} {s0 s : Int32} (H : mr_In cl s0 s) (h : mr_sw cl s = s) : mr_Cl cl s := by
  intro c hc hs j h1 h2 i h3
  have := (mr_swA_in H 20 (by omega)).2.2 c hc hs ⟨j, h1, h2⟩ i h3
  rw [show mr_swA cl s 20 = s from h] at this
  exact this
theorem mr_sw_grow {cl : Nat → Int32} {s0 s : Int32} (H : mr_In cl s0 s) (h : mr_sw cl s ≠ s) : mr_pc s < mr_pc (mr_sw cl s) := by
  have hs : ∀ i, i < 20 → bt s i = true → bt (mr_sw cl s) i = true := fun i _ e => (mr_swA_in H 20 (by omega)).2.1 i e
  exact Nat.lt_of_not_le fun hl => h (mr_W_ext H.1 (mr_sw_in H).1 (mr_ct_eq hs hl)).symm
theorem mr_In_u {cl : Nat → Int32} {s0 s : Int32} (h0 : mr_W s0) (H : mr_In cl s0 s) (h : mr_Cl cl s) : s = mr_close cl s0 := mr_close_u h0 H.1 h H.2.2.1 H.2.2.2
section MY
variable {tt ec cc kn sm sf : Int32} {cl nr ed fo fw : Nat → Int32}
theorem my_cell0 {post : Int32 → Prop} {p : Int32} (hb : p < 0 ∨ nI 20 ≤ p) (h : post 0) : wpY_isCell post (tt, ec, cc, kn, sm, sf, cl, nr, ed, fo, fw) p := by
  rcases hb with q | q
  · exact br_t q h
  · by_cases z : p < 0
    · exact br_t z h
    · refine br_f z (br_t ?_ h)
      obtain ⟨j, hj, rfl⟩ := nI_of z
      have q2 := (nI_leI (by omega) hj).mp q
      exact nI_lt (a := 19) (by omega) hj
theorem my_cell1 {post : Int32 → Prop} {c : Nat} (hc : c < 20) (h : post 1) : wpY_isCell post (tt, ec, cc, kn, sm, sf, cl, nr, ed, fo, fw) (nI c) :=
  br_f (nI_pos (by omega)) (br_f (nI_nlt (a := 19) (by omega) (by omega)) h)
theorem my_bits {post : Int32 → Prop} {x : Int32} (hw : mr_W x) (h : post (nI (mr_pc x))) : wpY_bits post (tt, ec, cc, kn, sm, sf, cl, nr, ed, fo, fw) x := mr_ybits hw h
theorem my_cov_l {post : Int32 → Prop} (hok : mr_ok cl) (hp : post (mr_cov cl)) : ∀ (d i : Nat), i + d = 20 →
    wY_covered_4 post tt ec cc kn sm sf cl nr ed fo fw (d + 1) (mr_acc (fun c => decide (cl c = -1)) i) (nI i) := by
  intro d
  induction d with
  | zero =>
    intro i hi
    have : i = 20 := by omega
    subst this
    exact pk_le 20 20 (fun _ => hp) (fun h => absurd h (by omega))
  | succ d ih =>
    intro i hi
    have hc : (nI i).toNatClampNeg = i := nI_clamp (by omega)
    have h1 := ih (i + 1) (by omega)
    refine pk_le 20 i (fun h => absurd h (by omega)) (fun _ => And.intro (pk_in i 20 (by omega)) ?_)
    refine br_c (fun e => ?_) (fun e => ?_)
    · rw [hc, mr_ge0 hok (by omega)] at e
      rw [mr_acc_f (decide_eq_false e)] at h1
      exact nm_r (nI_1 i) h1
    · rw [hc, mr_ge0 hok (by omega), Classical.not_not] at e
      rw [mr_acc_t (decide_eq_true e)] at h1
      exact nm_e (nm_r (nI_1 i) h1)
theorem my_cov {post : Int32 → Prop} (hok : mr_ok cl) (hp : post (mr_cov cl)) : wpY_covered post (tt, ec, cc, kn, sm, sf, cl, nr, ed, fo, fw) :=
  Exists.intro 21 (my_cov_l hok hp 20 0 rfl)
theorem my_edge {post : Int32 → Prop} (hok : mr_ok cl) {c : Nat} (hc : c < 20) (h1 : bt (mr_edge cl) c = true → post 1) (h0 : bt (mr_edge cl) c = false → post 0) :
    wpY_isAtEdge post (tt, ec, cc, kn, sm, sf, cl, mr_nb, ed, fo, fw) (nI c) := by
  have hk : (nI c).toNatClampNeg = c := nI_clamp (by omega)
  have hv : vp_in (nI c) 20 := pk_in c 20 (by omega)
  refine And.intro hv (br_c (fun e => ?_) (fun e => And.intro hv (my_cov hok (br_c (fun m => ?_) (fun m => ?_)))))
  · rw [hk, mr_ge0 hok hc] at e
    refine h0 (Bool.eq_false_iff.mpr fun z => e ?_)
    exact (mr_cov_t hc).mp (mr_edge_cov z)
  · rw [hk, mr_ge0 hok hc, Classical.not_not] at e
    rw [hk] at m
    exact h0 (Bool.eq_false_iff.mpr fun z => (mr_edge_y hc e).mp z m)
  · rw [hk, mr_ge0 hok hc, Classical.not_not] at e
    rw [hk] at m
    exact h1 ((mr_edge_y hc e).mpr m)
theorem my_gs36 {post : Int32 → Prop} {J : Int32 → Int32 → Prop} (hok : mr_ok cl) {s x4 : Int32} (hp : J (mr_sw cl s) x4) : ∀ (d i : Nat), i + d = 20 →
    wY_groupSet_36 post J (mr_cov cl) x4 tt ec cc kn sm sf cl mr_nb ed fo fw (d + 1) (mr_swA cl s i) (nI i) := by
  intro d
  induction d with
  | zero =>
    intro i hi
    have : i = 20 := by omega
    subst this
    exact pk_le 20 20 (fun _ => hp) (fun h => absurd h (by omega))
  | succ d ih =>
    intro i hi
    have hc : (nI i).toNatClampNeg = i := nI_clamp (by omega)
    have h1 := ih (i + 1) (by omega)
    have hv : vp_in (nI i) 20 := pk_in i 20 (by omega)
    refine pk_le 20 i (fun h => absurd h (by omega)) (fun _ => And.intro hv ?_)
    refine br_c (fun e => ?_) (fun e => And.intro hv (br_c (fun m => ?_) (fun m => And.intro hv ?_)))
    · rw [hc, mr_lt0 hok (by omega)] at e
      rw [show mr_swA cl s (i + 1) = mr_swA cl s i from if_pos e] at h1
      exact nm_r (nI_1 i) h1
    · rw [hc, mr_lt0 hok (by omega)] at e
      rw [hc] at m
      rw [show mr_swA cl s (i + 1) = mr_swA cl s i from (if_neg e).trans (if_pos m)] at h1
      exact nm_r (nI_1 i) h1
    · rw [hc, mr_lt0 hok (by omega)] at e
      rw [hc] at m
      rw [show mr_swA cl s (i + 1) = mr_swA cl s i ||| mr_nc cl i from (if_neg e).trans (if_neg m)] at h1
      exact nm_r (e' := mr_swA cl s i ||| mr_nc cl i) (by rw [hc]; rfl) (nm_r (nI_1 i) h1)
theorem my_gs24 {post : Int32 → Prop} (hok : mr_ok cl) {s0 : Int32} (h0 : mr_W s0) (hp : post (mr_close cl s0)) : ∀ (d : Nat) (s bf : Int32), 20 ≤ mr_pc s + d → mr_In cl s0 s → (bf = s → mr_Cl cl s) →
    wY_groupSet_24 post (mr_cov cl) tt ec cc kn sm sf cl mr_nb ed fo fw (d + 2) s bf := by
  intro d
  induction d with
  | zero =>
    intro s bf hd H hb
    refine br_c (fun e => ?_) (fun e => Exists.intro 21 (my_gs36 hok ?_ 20 0 rfl))
    · have := mr_In_u h0 H (hb e); rw [this]; exact hp
    · by_cases q : mr_sw cl s = s
      · rw [q]
        have := mr_In_u h0 H (mr_sw_Cl H q)
        exact br_t rfl (by rw [this]; exact hp)
      · have := mr_sw_grow H q
        have := mr_pc_le (mr_sw cl s)
        omega
  | succ d ih =>
    intro s bf hd H hb
    refine br_c (fun e => ?_) (fun e => Exists.intro 21 (my_gs36 hok ?_ 20 0 rfl))
    · have := mr_In_u h0 H (hb e); rw [this]; exact hp
    · by_cases q : mr_sw cl s = s
      · rw [q]
        have := mr_In_u h0 H (mr_sw_Cl H q)
        exact br_t rfl (by rw [this]; exact hp)
      · have := mr_sw_grow H q
        exact ih _ _ (by omega) (mr_sw_in H) (fun z => absurd z.symm q)
theorem mr_Wm1 {s : Int32} (h : mr_W s) : (-1 : Int32) ≠ s := by
  intro e
  have := h 31 (by omega)
  rw [← e, b_m1 31 (by omega)] at this
  exact absurd this (by decide)
theorem mr_close0 (cl : Nat → Int32) : mr_close cl 0 = 0 := by
  have h : mr_Cl cl 0 := fun c _ _ j _ h => by rw [b_0] at h; exact absurd h (by decide)
  exact (mr_close_u mr_W0 mr_W0 h (fun i h => h) (fun U _ h => h)).symm
theorem my_gset {post : Int32 → Prop} (hok : mr_ok cl) {c : Nat} (hc : c < 20) (h1 : bt (mr_edge cl) c = true → post (mr_K cl c)) (h0 : bt (mr_edge cl) c = false → post 0) :
    wpY_groupSet post (tt, ec, cc, kn, sm, sf, cl, mr_nb, ed, fo, fw) (nI c) := by
  refine my_cov hok (my_edge hok hc (fun e => br_f (by decide) ?_) (fun e => br_t rfl ?_))
  · refine nm_r (e' := mr_bit c) rfl (Exists.intro 22 ?_)
    refine my_gs24 hok (mr_W_bit hc) (h1 e) 20 (mr_bit c) (-1) (by omega) ⟨mr_W_bit hc, ?_, fun i h => h, fun U _ h => h⟩ (fun z => absurd z (mr_Wm1 (mr_W_bit hc)))
    exact mr_bit_sub hc (mr_edge_cov e)
  · refine Exists.intro 22 ?_
    refine my_gs24 hok mr_W0 (by rw [mr_close0]; exact h0 e) 20 0 (-1) (by omega) ⟨mr_W0, ?_, fun i h => h, fun U _ h => h⟩ (fun z => absurd z (mr_Wm1 mr_W0))
    intro i h; rw [b_0] at h; exact absurd h (by decide)
theorem my_groups_l {post : Int32 → Prop} (hok : mr_ok cl) (hp : post (nI (mr_ct (mr_ld cl) 20))) : ∀ (d i : Nat) (D : Int32), i + d = 20 →
    (∀ j, bt D j = true ↔ ∃ b, b < i ∧ bt (mr_edge cl) b = true ∧ bt (mr_K cl b) j = true) →
    wY_groups_6 post tt ec cc kn sm sf cl mr_nb ed fo fw (d + 1) (nI (mr_ct (mr_ld cl) i)) D (nI i) := by
  intro d
  induction d with
  | zero =>
    intro i D hi _
    have : i = 20 := by omega
    subst this
    exact pk_le 20 20 (fun _ => hp) (fun h => absurd h (by omega))
  | succ d ih =>
    intro i D hi hD
    have h1 := ih (i + 1)
    refine pk_le 20 i (fun h => absurd h (by omega)) (fun _ => my_edge hok (by omega) (fun e => br_f (by decide) ?_) (fun e => br_t rfl ?_))
    · refine ek_if (mr_has0 (by omega)) (fun m => ?_) (fun m => ?_)
      · have hl : mr_ld cl i = true := mr_ld_iff.mpr ⟨e, fun j hj => Bool.eq_false_iff.mpr fun z => by
          have hs := mr_K_sym (by omega) z
          have hd := (hD i).mpr ⟨j, hj, mr_K_edge e j z, hs⟩
          rw [m] at hd
          exact absurd hd (by decide)⟩
        refine nm_r (nI_1 _) (my_gset hok (by omega) (fun _ => nm_e (nm_r (nI_1 i) ?_)) (fun z => absurd e (by rw [z]; decide)))
        rw [← mr_ct_t hl]
        refine h1 _ (by omega) fun j => ?_
        rw [b_or, Bool.or_eq_true, hD]
        constructor
        · rintro (⟨b, b1, b2⟩ | h)
          · exact ⟨b, by omega, b2⟩
          · exact ⟨i, by omega, e, h⟩
        · rintro ⟨b, b1, b2⟩
          by_cases q : b = i
          · subst q; exact Or.inr b2.2
          · exact Or.inl ⟨b, by omega, b2⟩
      · have m2 : bt D i = true := by cases h : bt D i <;> first | rfl | exact absurd h m
        obtain ⟨b, b1, b2, b3⟩ := (hD i).mp m2
        have hl : mr_ld cl i = false := Bool.eq_false_iff.mpr fun z => by
          have := (mr_ld_iff.mp z).2 b b1
          rw [mr_K_sym (by omega) b3] at this
          exact absurd this (by decide)
        rw [← mr_ct_f hl]
        refine nm_r (nI_1 i) (h1 _ (by omega) fun j => ?_)
        rw [hD]
        constructor
        · rintro ⟨b, b1, b2⟩
          exact ⟨b, by omega, b2⟩
        · rintro ⟨a, a1, a2⟩
          by_cases q : a = i
          · subst q
            exact ⟨b, b1, b2, by rw [← mr_K_eq (by omega) b3]; exact a2.2⟩
          · exact ⟨a, by omega, a2⟩
    · have hl : mr_ld cl i = false := by unfold mr_ld; rw [e]; rfl
      rw [← mr_ct_f hl]
      refine nm_r (nI_1 i) (h1 _ (by omega) fun j => ?_)
      rw [hD]
      constructor
      · rintro ⟨b, b1, b2⟩
        exact ⟨b, by omega, b2⟩
      · rintro ⟨a, a1, a2⟩
        by_cases q : a = i
        · subst q; rw [e] at a2; exact absurd a2.1 (by decide)
        · exact ⟨a, by omega, a2⟩
theorem my_groups {post : Int32 → Prop} (hok : mr_ok cl) (hp : post (nI (mr_ct (mr_ld cl) 20))) : wpY_groups post (tt, ec, cc, kn, sm, sf, cl, mr_nb, ed, fo, fw) :=
  Exists.intro 21 (my_groups_l hok hp 20 0 0 rfl (fun j => ⟨fun h => by rw [b_0] at h; exact absurd h (by decide), fun ⟨b, h, _⟩ => absurd h (Nat.not_lt_zero b)⟩))
/-- the size of a cell's group, 0 off the edge -/
def mr_gsz (cl : Nat → Int32) (c : Nat) : Nat := if bt (mr_edge cl) c = true then mr_pc (mr_K cl c) else 0
theorem my_groupOf1 {post : Int32 → Prop} (hok : mr_ok cl) {c : Nat} (hc : c < 20) (hp : post (nI (mr_gsz cl c))) : wpY_groupOf post (tt, ec, cc, kn, sm, sf, cl, mr_nb, ed, fo, fw) (nI c) := by
  unfold mr_gsz at hp
  unfold wpY_groupOf
  refine my_cell1 hc (br_f (by decide) (my_gset hok hc (fun e => my_bits (mr_K_W hc) ?_) (fun e => my_bits mr_W0 ?_)))
  · rw [if_pos e] at hp; exact hp
  · rw [if_neg (by rw [e]; decide)] at hp; rw [mr_pc_0]; exact hp
end MY
section MX
variable {w cv gc rs ce mi dm df ck : Int32} {cl nr gs wy ww su sn ch ca sa : Nat → Int32}
theorem mx_groups {post : Int32 → SX → Prop} (hp : ∀ (k : Nat) (gs' : Nat → Int32), post (nI (mr_ct (mr_ld cl) 20)) (w, mr_cov cl, nI k, mr_rest cl, ce, mi, dm, df, ck, cl, mr_nb, gs', wy, ww, su, sn, ch, ca, sa)) :
    wpX_groups post (w, mr_cov cl, gc, rs, ce, mi, dm, df, ck, cl, mr_nb, gs, wy, ww, su, sn, ch, ca, sa) := by
  unfold wpX_groups
  refine mx_findGroups fun k gs' hk H => ?_
  have h := H.2.2.2.2.2.2.1
  have e : mr_ct (fun i => mr_ld cl i && !bt 0 i) 20 = mr_ct (mr_ld cl) 20 := mr_ct_congr fun i _ => by
    show (mr_ld cl i && !bt 0 i) = mr_ld cl i
    rw [b_0]; exact Bool.and_true _
  rw [e] at h
  have h2 := hp k gs'
  rw [← h] at h2
  exact h2
theorem mx_go16 {post : Int32 → SX → Prop} {k c : Nat} (hc : c < 20) (hk : k ≤ 20) (H : mr_GI cl 0 k gs)
    (hp : post (nI (mr_gsz cl c)) (w, mr_cov cl, nI k, rs, ce, mi, dm, df, ck, cl, mr_nb, gs, wy, ww, su, sn, ch, ca, sa)) : ∀ (d i : Nat), i + d = k → (∀ g, g < i → bt (gs g) c = false) →
    wX_groupOf_16 post (nI c) w (mr_cov cl) (nI k) rs ce mi dm df ck cl mr_nb gs wy ww su sn ch ca sa (d + 1) (nI i) := by
  intro d
  induction d with
  | zero =>
    intro i hi hg
    have : i = k := by omega
    subst this
    refine pk_le i i (fun _ => ?_) (fun h => absurd h (by omega))
    have e : mr_gsz cl c = 0 := if_neg fun z => by
      rcases H.2.2.2.2.2.1 c z with q | ⟨g, g1, g2⟩
      · rw [b_0] at q; exact absurd q (by decide)
      · rw [hg g g1] at g2; exact absurd g2 (by decide)
    rw [e] at hp
    exact hp
  | succ d ih =>
    intro i hi hg
    have hcl : (nI i).toNatClampNeg = i := nI_clamp (by omega)
    have hv : vp_in (nI i) 20 := pk_in i 20 (by omega)
    refine pk_le k i (fun h => absurd h (by omega)) (fun _ => And.intro hv (mx_has (by omega) (fun e => br_f (by decide) (And.intro hv ?_)) (fun e => br_t rfl ?_)))
    · rw [hcl] at e ⊢
      obtain ⟨g1, g2, g3⟩ := H.2.2.2.1 i (by omega)
      refine mx_bits g1 ?_
      have q := g3 c e
      rw [show mr_gsz cl c = mr_pc (mr_K cl c) from if_pos q.1, ← q.2.2] at hp
      exact hp
    · rw [hcl] at e
      refine nm_r (nI_1 i) (ih (i + 1) (by omega) fun g hg2 => ?_)
      by_cases q : g = i
      · subst q; exact e
      · exact hg g (by omega)
theorem mx_groupOf1 {post : Int32 → SX → Prop} {c : Nat} (hc : c < 20) (hp : ∀ (k : Nat) (gs' : Nat → Int32), post (nI (mr_gsz cl c)) (w, mr_cov cl, nI k, mr_rest cl, ce, mi, dm, df, ck, cl, mr_nb, gs', wy, ww, su, sn, ch, ca, sa)) :
    wpX_groupOf post (w, mr_cov cl, gc, rs, ce, mi, dm, df, ck, cl, mr_nb, gs, wy, ww, su, sn, ch, ca, sa) (nI c) := by
  unfold wpX_groupOf
  refine mx_bad0 hc (br_t rfl ?_)
  refine mx_findGroups fun k gs' hk H => ?_
  exact Exists.intro (k + 1) (mx_go16 hc hk H (hp k gs') k 0 (by omega) (fun g h => absurd h (Nat.not_lt_zero g)))
end MX
end
section
/-! counting fillings: truth as a number, finite sums, sums over subsets -/
noncomputable def mr_b (p : Prop) : Nat := @ite Nat p (Classical.propDecidable p) 1 0
theorem mr_b_t {p : Prop} (h : p) : mr_b p = 1 := by unfold mr_b; exact if_pos h
theorem mr_b_f {p : Prop} (h : ¬ p) : mr_b p = 0 := by unfold mr_b; exact if_neg h
theorem mr_b_and (p q : Prop) : mr_b (p ∧ q) = mr_b p * mr_b q := by
  by_cases hp : p
  · by_cases hq : q
    · rw [mr_b_t hp, mr_b_t hq, mr_b_t ⟨hp, hq⟩]
    · rw [mr_b_t hp, mr_b_f hq, mr_b_f (fun z => hq z.2)]
  · rw [mr_b_f hp, mr_b_f (fun z => hp z.1), Nat.zero_mul]
theorem mr_b_iff {p q : Prop} (h : p ↔ q) : mr_b p = mr_b q := by rw [propext h]
theorem mr_b_le (p : Prop) : mr_b p ≤ 1 := by
  by_cases hp : p
  · rw [mr_b_t hp]; exact Nat.le_refl 1
  · rw [mr_b_f hp]; omega
theorem mr_b_imp {p q : Prop} (h : p → q) : mr_b p ≤ mr_b q := by
  by_cases hp : p
  · rw [mr_b_t hp, mr_b_t (h hp)]; exact Nat.le_refl 1
  · rw [mr_b_f hp]; exact Nat.zero_le _
def mr_sm (f : Nat → Nat) : Nat → Nat
  | 0 => 0
  | n + 1 => mr_sm f n + f n
theorem mr_sm_congr {f g : Nat → Nat} : ∀ n, (∀ i, i < n → f i = g i) → mr_sm f n = mr_sm g n := by
  intro n
  induction n with
  | zero => intro _; rfl
  | succ n ih =>
    intro h
    show mr_sm f n + f n = mr_sm g n + g n
    rw [ih (fun i hi => h i (by omega)), h n (by omega)]
theorem mr_sm_le {f g : Nat → Nat} : ∀ n, (∀ i, i < n → f i ≤ g i) → mr_sm f n ≤ mr_sm g n := by
  intro n
  induction n with
  | zero => intro _; exact Nat.le_refl 0
  | succ n ih =>
    intro h
    exact Nat.add_le_add (ih (fun i hi => h i (by omega))) (h n (by omega))
theorem mr_sm_add (f g : Nat → Nat) : ∀ n, mr_sm (fun i => f i + g i) n = mr_sm f n + mr_sm g n := by
  intro n
  induction n with
  | zero => rfl
  | succ n ih =>
    show mr_sm (fun i => f i + g i) n + (f n + g n) = mr_sm f n + f n + (mr_sm g n + g n)
    rw [ih]; omega
theorem mr_sm_mul (k : Nat) (f : Nat → Nat) : ∀ n, mr_sm (fun i => k * f i) n = k * mr_sm f n := by
  intro n
  induction n with
  | zero => rfl
  | succ n ih =>
    show mr_sm (fun i => k * f i) n + k * f n = k * (mr_sm f n + f n)
    rw [ih, Nat.mul_add]
theorem mr_sm_0 {f : Nat → Nat} : ∀ n, (∀ i, i < n → f i = 0) → mr_sm f n = 0 := by
  intro n
  induction n with
  | zero => intro _; rfl
  | succ n ih =>
    intro h
    show mr_sm f n + f n = 0
    rw [ih (fun i hi => h i (by omega)), h n (by omega)]
theorem mr_sm_1 {f : Nat → Nat} {j : Nat} : ∀ n, j < n → (∀ i, i < n → i ≠ j → f i = 0) → mr_sm f n = f j := by
  intro n
  induction n with
  | zero => intro h; omega
  | succ n ih =>
    intro hj h
    show mr_sm f n + f n = f j
    by_cases e : j = n
    · subst e
      rw [mr_sm_0 j (fun i hi => h i (by omega) (by omega)), Nat.zero_add]
    · rw [ih (by omega) (fun i hi => h i (by omega)), h n (by omega) (by omega), Nat.add_zero]
theorem mr_sm_swap (f : Nat → Nat → Nat) (m : Nat) : ∀ n, mr_sm (fun i => mr_sm (fun j => f i j) m) n = mr_sm (fun j => mr_sm (fun i => f i j) n) m := by
  intro n
  induction n with
  | zero => exact (mr_sm_0 m (fun _ _ => rfl)).symm
  | succ n ih =>
    show mr_sm (fun i => mr_sm (fun j => f i j) m) n + mr_sm (fun j => f n j) m = mr_sm (fun j => mr_sm (fun i => f i j) n + f n j) m
    rw [ih, mr_sm_add]
/-! sums over the subsets of a set of cells -/
def mr_SS (x : Int32) (u : Int32 → Nat) : Nat → Int32 → Nat
  | 0, M => u M
  | d + 1, M => if bt x (19 - d) = true then mr_SS x u d M + mr_SS x u d (M ||| mr_bit (19 - d)) else mr_SS x u d M
theorem mr_SS_t {x : Int32} {u : Int32 → Nat} {d : Nat} {M : Int32} (h : bt x (19 - d) = true) : mr_SS x u (d + 1) M = mr_SS x u d M + mr_SS x u d (M ||| mr_bit (19 - d)) := if_pos h
theorem mr_SS_f {x : Int32} {u : Int32 → Nat} {d : Nat} {M : Int32} (h : bt x (19 - d) = false) : mr_SS x u (d + 1) M = mr_SS x u d M := if_neg (by rw [h]; decide)
theorem mr_SS_add (x : Int32) (u v : Int32 → Nat) : ∀ d M, mr_SS x (fun S => u S + v S) d M = mr_SS x u d M + mr_SS x v d M := by
  intro d
  induction d with
  | zero => intro M; rfl
  | succ d ih =>
    intro M
    cases h : bt x (19 - d) with
    | true => rw [mr_SS_t h, mr_SS_t h, mr_SS_t h, ih, ih]; omega
    | false => rw [mr_SS_f h, mr_SS_f h, mr_SS_f h, ih]
theorem mr_SS_mul (x : Int32) (k : Nat) (u : Int32 → Nat) : ∀ d M, mr_SS x (fun S => k * u S) d M = k * mr_SS x u d M := by
  intro d
  induction d with
  | zero => intro M; rfl
  | succ d ih =>
    intro M
    cases h : bt x (19 - d) with
    | true => rw [mr_SS_t h, mr_SS_t h, ih, ih, Nat.mul_add]
    | false => rw [mr_SS_f h, mr_SS_f h, ih]
theorem mr_SS_0 (x : Int32) : ∀ d M, mr_SS x (fun _ => 0) d M = 0 := by
  intro d
  induction d with
  | zero => intro M; rfl
  | succ d ih =>
    intro M
    cases h : bt x (19 - d) with
    | true => rw [mr_SS_t h, ih, ih]
    | false => rw [mr_SS_f h, ih]
theorem mr_SS_sm (x : Int32) (f : Nat → Int32 → Nat) (d : Nat) (M : Int32) : ∀ n, mr_SS x (fun S => mr_sm (fun a => f a S) n) d M = mr_sm (fun a => mr_SS x (f a) d M) n := by
  intro n
  induction n with
  | zero => exact mr_SS_0 x d M
  | succ n ih =>
    show mr_SS x (fun S => mr_sm (fun a => f a S) n + f n S) d M = mr_sm (fun a => mr_SS x (f a) d M) n + mr_SS x (f n) d M
    rw [mr_SS_add, ih]
theorem mr_SS_le {x : Int32} {u v : Int32 → Nat} : ∀ d M, d ≤ 20 → mr_W M → (∀ S, mr_W S → (∀ i, bt S i = true → bt M i = true ∨ bt x i = true) → u S ≤ v S) → mr_SS x u d M ≤ mr_SS x v d M := by
  intro d
  induction d with
  | zero => intro M _ hw h; exact h M hw (fun i e => Or.inl e)
  | succ d ih =>
    intro M hd hw h
    have h1 := ih M (by omega) hw h
    cases e : bt x (19 - d) with
    | true =>
      rw [mr_SS_t e, mr_SS_t e]
      refine Nat.add_le_add h1 (ih _ (by omega) (mr_W_or hw (mr_W_bit (by omega))) fun S s1 s2 => h S s1 fun i hi => ?_)
      rcases s2 i hi with q | q
      · rw [b_or, Bool.or_eq_true] at q
        rcases q with q | q
        · exact Or.inl q
        · have hl := mr_W_lt (mr_W_bit (by omega)) q
          rw [mr_bit_iff (by omega) (by omega)] at q
          rw [q]; exact Or.inr e
      · exact Or.inr q
    | false => rw [mr_SS_f e, mr_SS_f e]; exact h1
theorem mr_SS_congr {x : Int32} {u v : Int32 → Nat} {d : Nat} {M : Int32} (hd : d ≤ 20) (hw : mr_W M) (h : ∀ S, mr_W S → (∀ i, bt S i = true → bt M i = true ∨ bt x i = true) → u S = v S) : mr_SS x u d M = mr_SS x v d M :=
  Nat.le_antisymm (mr_SS_le d M hd hw fun S a b => Nat.le_of_eq (h S a b)) (mr_SS_le d M hd hw fun S a b => Nat.le_of_eq (h S a b).symm)
theorem mr_SS_one (x : Int32) : ∀ d M, d ≤ 20 → mr_SS x (fun _ => 1) d M = 2 ^ (mr_pc x - mr_ct (bt x) (20 - d)) := by
  intro d
  induction d with
  | zero =>
    intro M _
    rw [show mr_pc x - mr_ct (bt x) (20 - 0) = 0 from Nat.sub_self _]
    rfl
  | succ d ih =>
    intro M hd
    have e1 : 20 - d = (19 - d) + 1 := by omega
    have e2 : 20 - (d + 1) = 19 - d := by omega
    have h1 := ih M (by omega)
    have h2 := ih (M ||| mr_bit (19 - d)) (by omega)
    cases e : bt x (19 - d) with
    | true =>
      rw [e1, mr_ct_t e] at h1 h2
      have hl : mr_ct (bt x) (19 - d) < mr_pc x := mr_ct_ltN (by omega) e
      rw [mr_SS_t e, h1, h2, e2, show mr_pc x - mr_ct (bt x) (19 - d) = (mr_pc x - (mr_ct (bt x) (19 - d) + 1)) + 1 by omega, Nat.pow_succ]
      omega
    | false =>
      rw [e1, mr_ct_f e] at h1
      rw [mr_SS_f e, h1, e2]
theorem mr_or_0 (x : Int32) : x ||| 0 = x := b_ext fun i _ => by rw [b_or, b_0, Bool.or_false]
theorem mr_or_as (x y z : Int32) : (x ||| y) ||| z = x ||| (y ||| z) := b_ext fun i _ => by rw [b_or, b_or, b_or, b_or, Bool.or_assoc]
theorem mr_or_cm (x y : Int32) : x ||| y = y ||| x := b_ext fun i _ => by rw [b_or, b_or, Bool.or_comm]
theorem mr_SS_fub {x y : Int32} (u : Int32 → Nat) (hd : ∀ i, bt x i = true → bt y i = true → False) : ∀ d M N, d ≤ 20 →
    mr_SS (x ||| y) u d (M ||| N) = mr_SS x (fun S => mr_SS y (fun T => u (S ||| T)) d N) d M := by
  intro d
  induction d with
  | zero => intro M N _; rfl
  | succ d ih =>
    intro M N hd20
    cases ex : bt x (19 - d) with
    | true =>
      have ey : bt y (19 - d) = false := Bool.eq_false_iff.mpr fun z => hd _ ex z
      have exy : bt (x ||| y) (19 - d) = true := by rw [b_or, ex]; rfl
      have ef : (fun S => mr_SS y (fun T => u (S ||| T)) (d + 1) N) = (fun S => mr_SS y (fun T => u (S ||| T)) d N) := funext fun S => mr_SS_f ey
      rw [ef, mr_SS_t exy, mr_SS_t ex, ih M N (by omega), show (M ||| N) ||| mr_bit (19 - d) = (M ||| mr_bit (19 - d)) ||| N by rw [mr_or_as, mr_or_cm N, ← mr_or_as], ih _ N (by omega)]
    | false =>
      cases ey : bt y (19 - d) with
      | true =>
        have exy : bt (x ||| y) (19 - d) = true := by rw [b_or, ex, ey]; rfl
        have ef : (fun S => mr_SS y (fun T => u (S ||| T)) (d + 1) N) = (fun S => mr_SS y (fun T => u (S ||| T)) d N + mr_SS y (fun T => u (S ||| T)) d (N ||| mr_bit (19 - d))) := funext fun S => mr_SS_t ey
        rw [ef, mr_SS_t exy, mr_SS_f ex, mr_SS_add, ih M N (by omega), mr_or_as, ih M _ (by omega)]
      | false =>
        have exy : bt (x ||| y) (19 - d) = false := by rw [b_or, ex, ey]; rfl
        have ef : (fun S => mr_SS y (fun T => u (S ||| T)) (d + 1) N) = (fun S => mr_SS y (fun T => u (S ||| T)) d N) := funext fun S => mr_SS_f ey
        rw [ef, mr_SS_f exy, mr_SS_f ex, ih M N (by omega)]
/-! fillings of closed sets -/
def mr_kl (cl : Nat → Int32) (c : Nat) : Nat := (cl c).toNatClampNeg
theorem mr_kl_e {cl : Nat → Int32} (h : mr_ok cl) {c : Nat} (hc : c < 20) (hs : cl c ≠ -1) : cl c = nI (mr_kl cl c) ∧ mr_kl cl c ≤ 8 := by
  rcases h c hc with e | ⟨k, hk, e⟩
  · exact absurd e hs
  · unfold mr_kl
    rw [e, nI_clamp (by omega)]
    exact ⟨rfl, hk⟩
def mr_gd (cl : Nat → Int32) (T S : Int32) : Prop := ∀ c, c < 20 → cl c ≠ -1 → (∃ i, bt (mr_nc cl c) i = true ∧ bt T i = true) → mr_pc (mr_nb c &&& S) = mr_kl cl c
noncomputable def mr_PF (cl : Nat → Int32) (T : Int32) (Q : Int32 → Prop) (n : Nat) : Nat := mr_SS T (fun S => mr_b (mr_gd cl T S ∧ Q S ∧ mr_pc S = n)) 20 0
theorem mr_nbS {cl : Nat → Int32} {c : Nat} {S S' G : Int32} (hc : ∀ i, bt G i = true → bt (mr_cov cl) i = true) (hs : ∀ i, bt S' i = true → bt G i = true) (hn : ∀ i, bt (mr_nc cl c) i = true → bt G i = true → False) : mr_pc (mr_nb c &&& (S ||| S')) = mr_pc (mr_nb c &&& S) := by
  refine mr_ct_congr fun i _ => ?_
  rw [b_and, b_and, b_or]
  cases e : bt S' i with
  | false => rw [Bool.or_false]
  | true =>
    have : bt (mr_nb c) i = false := Bool.eq_false_iff.mpr fun z => hn i (mr_nc_bt.mpr ⟨z, hc i (hs i e)⟩) (hs i e)
    rw [this]; rfl
theorem mr_gd_or {cl : Nat → Int32} {T G S S' : Int32} (cT : mr_Cl cl T) (cG : mr_Cl cl G) (vT : ∀ i, bt T i = true → bt (mr_cov cl) i = true) (vG : ∀ i, bt G i = true → bt (mr_cov cl) i = true)
    (dj : ∀ i, bt T i = true → bt G i = true → False) (hS : ∀ i, bt S i = true → bt T i = true) (hS' : ∀ i, bt S' i = true → bt G i = true) : mr_gd cl (T ||| G) (S ||| S') ↔ mr_gd cl T S ∧ mr_gd cl G S' := by
  have a1 : ∀ c, c < 20 → cl c ≠ -1 → (∃ i, bt (mr_nc cl c) i = true ∧ bt T i = true) → mr_pc (mr_nb c &&& (S ||| S')) = mr_pc (mr_nb c &&& S) := by
    intro c hc hs hm
    obtain ⟨j, j1, j2⟩ := hm
    exact mr_nbS vG hS' fun i h1 h2 => dj i (cT c hc hs j j1 j2 i h1) h2
  have a2 : ∀ c, c < 20 → cl c ≠ -1 → (∃ i, bt (mr_nc cl c) i = true ∧ bt G i = true) → mr_pc (mr_nb c &&& (S ||| S')) = mr_pc (mr_nb c &&& S') := by
    intro c hc hs hm
    obtain ⟨j, j1, j2⟩ := hm
    rw [mr_or_cm]
    exact mr_nbS vT hS fun i h1 h2 => dj i h2 (cG c hc hs j j1 j2 i h1)
  constructor
  · intro h
    refine ⟨fun c hc hs hm => ?_, fun c hc hs hm => ?_⟩
    · rw [← a1 c hc hs hm]
      obtain ⟨j, j1, j2⟩ := hm
      exact h c hc hs ⟨j, j1, by rw [b_or, j2]; rfl⟩
    · rw [← a2 c hc hs hm]
      obtain ⟨j, j1, j2⟩ := hm
      exact h c hc hs ⟨j, j1, by rw [b_or, j2, Bool.or_true]⟩
  · rintro ⟨h1, h2⟩ c hc hs ⟨j, j1, j2⟩
    rw [b_or, Bool.or_eq_true] at j2
    rcases j2 with q | q
    · rw [a1 c hc hs ⟨j, j1, q⟩]; exact h1 c hc hs ⟨j, j1, q⟩
    · rw [a2 c hc hs ⟨j, j1, q⟩]; exact h2 c hc hs ⟨j, j1, q⟩
theorem mr_PF_prod {cl : Nat → Int32} {T G : Int32} {Q Q1 Q2 : Int32 → Prop} (cT : mr_Cl cl T) (cG : mr_Cl cl G) (vT : ∀ i, bt T i = true → bt (mr_cov cl) i = true) (vG : ∀ i, bt G i = true → bt (mr_cov cl) i = true)
    (dj : ∀ i, bt T i = true → bt G i = true → False)
    (hQ : ∀ S S', (∀ i, bt S i = true → bt T i = true) → (∀ i, bt S' i = true → bt G i = true) → (Q (S ||| S') ↔ Q1 S ∧ Q2 S')) (n : Nat) :
    mr_PF cl (T ||| G) Q n = mr_sm (fun a => mr_b (a ≤ n) * (mr_PF cl T Q1 a * mr_PF cl G Q2 (n - a))) 21 := by
  have h0 : mr_PF cl (T ||| G) Q n = mr_SS (T ||| G) (fun S => mr_b (mr_gd cl (T ||| G) S ∧ Q S ∧ mr_pc S = n)) 20 (0 ||| 0) := by rw [mr_or_0]; rfl
  rw [h0, mr_SS_fub _ dj 20 0 0 (by omega)]
  have e1 : mr_SS T (fun S => mr_SS G (fun S' => mr_b (mr_gd cl (T ||| G) (S ||| S') ∧ Q (S ||| S') ∧ mr_pc (S ||| S') = n)) 20 0) 20 0 =
      mr_SS T (fun S => mr_sm (fun a => (mr_b (a ≤ n) * mr_PF cl G Q2 (n - a)) * mr_b (mr_gd cl T S ∧ Q1 S ∧ mr_pc S = a)) 21) 20 0 := by
    refine mr_SS_congr (by omega) mr_W0 fun S wS sS => ?_
    have sS' : ∀ i, bt S i = true → bt T i = true := fun i h => (sS i h).elim (fun z => by rw [b_0] at z; exact absurd z (by decide)) id
    have e2 : mr_SS G (fun S' => mr_b (mr_gd cl (T ||| G) (S ||| S') ∧ Q (S ||| S') ∧ mr_pc (S ||| S') = n)) 20 0 =
        mr_SS G (fun S' => mr_sm (fun a => (mr_b (a ≤ n) * mr_b (mr_gd cl T S ∧ Q1 S ∧ mr_pc S = a)) * mr_b (mr_gd cl G S' ∧ Q2 S' ∧ mr_pc S' = n - a)) 21) 20 0 := by
      refine mr_SS_congr (by omega) mr_W0 fun S' wS' sS2 => ?_
      have sS3 : ∀ i, bt S' i = true → bt G i = true := fun i h => (sS2 i h).elim (fun z => by rw [b_0] at z; exact absurd z (by decide)) id
      rw [mr_sm_1 (j := mr_pc S) 21 (by have := mr_pc_le S; omega) (fun a _ hne => by rw [mr_b_f (p := mr_gd cl T S ∧ Q1 S ∧ mr_pc S = a) (fun z => hne z.2.2.symm), Nat.mul_zero, Nat.zero_mul])]
      rw [← mr_b_and, ← mr_b_and]
      apply mr_b_iff
      rw [mr_gd_or cT cG vT vG dj sS' sS3, hQ S S' sS' sS3, mr_pc_or (fun i _ a b => dj i (sS' i a) (sS3 i b))]
      constructor
      · rintro ⟨⟨a, b⟩, ⟨c, d⟩, e⟩
        exact ⟨⟨by omega, a, c, rfl⟩, b, d, by omega⟩
      · rintro ⟨⟨h, a, c, _⟩, b, d, e⟩
        exact ⟨⟨a, b⟩, ⟨c, d⟩, by omega⟩
    rw [e2, mr_SS_sm]
    refine mr_sm_congr 21 fun a _ => ?_
    rw [mr_SS_mul]
    show mr_b (a ≤ n) * mr_b _ * mr_PF cl G Q2 (n - a) = _
    rw [Nat.mul_assoc, Nat.mul_assoc, Nat.mul_comm (mr_b _) (mr_PF cl G Q2 (n - a))]
  rw [e1, mr_SS_sm]
  refine mr_sm_congr 21 fun a _ => ?_
  rw [mr_SS_mul]
  show mr_b (a ≤ n) * mr_PF cl G Q2 (n - a) * mr_PF cl T Q1 a = _
  rw [Nat.mul_assoc, Nat.mul_comm (mr_PF cl G Q2 (n - a))]
end
section
/-! the search by places: sums, cells still to set, what is cut off counts nothing -/
def mr_SA (p : Nat → Nat) (N : Nat) (u : Int32 → Nat) : Nat → Int32 → Nat
  | 0, M => u M
  | d + 1, M => mr_SA p N u d M + mr_SA p N u d (M ||| mr_bit (p (N - (d + 1))))
def mr_Ls (x : Int32) (p : Nat → Nat) : Prop := ∀ c, c < 20 → bt x c = true → p (mr_ct (bt x) c) = c
theorem mr_Ls_at {x : Int32} {p : Nat → Nat} (h : mr_Ls x p) {k : Nat} (hk : k < mr_pc x) : p k < 20 ∧ bt x (p k) = true ∧ mr_ct (bt x) (p k) = k := by
  obtain ⟨c, h1, h2, h3⟩ := mr_ct_at 20 hk
  have e := h c h1 h2
  rw [h3] at e
  rw [e]
  exact ⟨h1, h2, h3⟩
theorem mr_SA_SS {x : Int32} {p : Nat → Nat} {u : Int32 → Nat} (h : mr_Ls x p) : ∀ d M, d ≤ 20 → mr_SA p (mr_pc x) u (mr_pc x - mr_ct (bt x) (20 - d)) M = mr_SS x u d M := by
  intro d
  induction d with
  | zero =>
    intro M _
    rw [show mr_pc x - mr_ct (bt x) (20 - 0) = 0 from Nat.sub_self _]
    rfl
  | succ d ih =>
    intro M hd
    have e1 : 20 - d = (19 - d) + 1 := by omega
    have e2 : 20 - (d + 1) = 19 - d := by omega
    have h1 := ih M (by omega)
    have h2 := ih (M ||| mr_bit (19 - d)) (by omega)
    cases e : bt x (19 - d) with
    | true =>
      rw [e1, mr_ct_t e] at h1 h2
      have hl : mr_ct (bt x) (19 - d) < mr_pc x := mr_ct_ltN (by omega) e
      have hp := h (19 - d) (by omega) e
      rw [mr_SS_t e, e2, show mr_pc x - mr_ct (bt x) (19 - d) = (mr_pc x - (mr_ct (bt x) (19 - d) + 1)) + 1 by omega]
      show mr_SA p (mr_pc x) u _ M + mr_SA p (mr_pc x) u _ (M ||| mr_bit (p (mr_pc x - (mr_pc x - (mr_ct (bt x) (19 - d) + 1) + 1)))) = _
      rw [show mr_pc x - (mr_pc x - (mr_ct (bt x) (19 - d) + 1) + 1) = mr_ct (bt x) (19 - d) by omega, hp, h1, h2]
    | false =>
      rw [e1, mr_ct_f e] at h1
      rw [mr_SS_f e, e2, h1]
theorem mr_SA_all {x : Int32} {p : Nat → Nat} {u : Int32 → Nat} (h : mr_Ls x p) : mr_SA p (mr_pc x) u (mr_pc x) 0 = mr_SS x u 20 0 := mr_SA_SS h 20 0 (by omega)
def mr_op (p : Nat → Nat) (N : Nat) : Nat → Int32
  | 0 => 0
  | d + 1 => mr_op p N d ||| mr_bit (p (N - (d + 1)))
theorem mr_op_W {x : Int32} {p : Nat → Nat} (h : mr_Ls x p) : ∀ d, d ≤ mr_pc x → mr_W (mr_op p (mr_pc x) d) := by
  intro d
  induction d with
  | zero => intro _; exact mr_W0
  | succ d ih => intro hd; exact mr_W_or (ih (by omega)) (mr_W_bit (mr_Ls_at h (by omega)).1)
theorem mr_op_bt {x : Int32} {p : Nat → Nat} (hx : mr_W x) (h : mr_Ls x p) : ∀ d, d ≤ mr_pc x → ∀ j, bt (mr_op p (mr_pc x) d) j = true ↔ bt x j = true ∧ mr_pc x - d ≤ mr_ct (bt x) j := by
  intro d
  induction d with
  | zero =>
    intro _ j
    rw [show mr_op p (mr_pc x) 0 = 0 from rfl, b_0]
    constructor
    · intro z; exact absurd z (by decide)
    · rintro ⟨a, b⟩
      have : mr_ct (bt x) j < mr_pc x := mr_ct_ltN (mr_W_lt hx a) a
      omega
  | succ d ih =>
    intro hd j
    obtain ⟨a1, a2, a3⟩ := mr_Ls_at h (k := mr_pc x - (d + 1)) (by omega)
    show bt (mr_op p (mr_pc x) d ||| mr_bit (p (mr_pc x - (d + 1)))) j = true ↔ _
    rw [b_or, Bool.or_eq_true, ih (by omega) j]
    constructor
    · rintro (⟨b, c⟩ | b)
      · exact ⟨b, by omega⟩
      · have hl := mr_W_lt (mr_W_bit a1) b
        rw [mr_bit_iff (by omega) (by omega)] at b
        rw [b]
        exact ⟨a2, by omega⟩
    · rintro ⟨b, c⟩
      by_cases q : mr_pc x - d ≤ mr_ct (bt x) j
      · exact Or.inl ⟨b, q⟩
      · refine Or.inr ?_
        have e : j = p (mr_pc x - (d + 1)) := mr_ct_inj b a2 (by omega)
        rw [← e]
        exact mr_bit_self (by have := mr_W_lt hx b; omega)
theorem mr_ct_orle {f g h : Nat → Bool} : ∀ n, (∀ i, i < n → h i = (f i || g i)) → mr_ct h n ≤ mr_ct f n + mr_ct g n := by
  intro n
  induction n with
  | zero => intro _; exact Nat.le_refl 0
  | succ n ih =>
    intro e
    have h1 := ih (fun i hi => e i (by omega))
    have h2 := e n (by omega)
    cases ef : f n <;> cases eg : g n <;> rw [ef, eg] at h2
    · rw [mr_ct_f h2, mr_ct_f ef, mr_ct_f eg]; exact h1
    · rw [mr_ct_t h2, mr_ct_f ef, mr_ct_t eg]; omega
    · rw [mr_ct_t h2, mr_ct_t ef, mr_ct_f eg]; omega
    · rw [mr_ct_t h2, mr_ct_t ef, mr_ct_t eg]; omega
theorem mr_pc_ando (c x y : Int32) : mr_pc (c &&& (x ||| y)) ≤ mr_pc (c &&& x) + mr_pc (c &&& y) := mr_ct_orle 20 fun i _ => by
  rw [b_and, b_and, b_and, b_or]; cases bt c i <;> rfl
theorem mr_pc_anddo {c x y : Int32} (h : ∀ i, i < 20 → bt x i = true → bt y i = true → False) : mr_pc (c &&& (x ||| y)) = mr_pc (c &&& x) + mr_pc (c &&& y) := mr_ct_or 20 (fun i _ => by
  rw [b_and, b_and, b_and, b_or]; cases bt c i <;> rfl) (fun i hi a b => by
  rw [b_and, Bool.and_eq_true] at a b; exact h i hi a.2 b.2)
theorem mr_pc_andl {c x y : Int32} (h : ∀ i, bt x i = true → bt y i = true) : mr_pc (c &&& x) ≤ mr_pc (c &&& y) := mr_pc_sub fun i _ a => by
  rw [b_and, Bool.and_eq_true] at a ⊢; exact ⟨a.1, h i a.2⟩
theorem mr_SA_0 {x : Int32} {p : Nat → Nat} {u : Int32 → Nat} {nb : Int32} {kl : Nat} (hx : mr_W x) (h : mr_Ls x p) (hu : ∀ S, mr_pc (nb &&& S) ≠ kl → u S = 0) : ∀ d M, d ≤ mr_pc x →
    (kl < mr_pc (nb &&& M) ∨ mr_pc (nb &&& M) + mr_pc (nb &&& mr_op p (mr_pc x) d) < kl) → mr_SA p (mr_pc x) u d M = 0 := by
  intro d
  induction d with
  | zero =>
    intro M _ hm
    refine hu M ?_
    rcases hm with q | q <;> omega
  | succ d ih =>
    intro M hd hm
    obtain ⟨a1, a2, a3⟩ := mr_Ls_at h (k := mr_pc x - (d + 1)) (by omega)
    have eo : mr_pc (nb &&& mr_op p (mr_pc x) (d + 1)) = mr_pc (nb &&& mr_op p (mr_pc x) d) + mr_pc (nb &&& mr_bit (p (mr_pc x - (d + 1)))) := mr_pc_anddo fun i hi b c => by
      rw [mr_bit_iff (by omega) (by omega)] at c
      rw [mr_op_bt hx h d (by omega), c, a3] at b
      omega
    have h1 : mr_pc (nb &&& M) ≤ mr_pc (nb &&& (M ||| mr_bit (p (mr_pc x - (d + 1))))) := mr_pc_andl fun i e => by rw [b_or, e]; rfl
    have h2 := mr_pc_ando nb M (mr_bit (p (mr_pc x - (d + 1))))
    show mr_SA p (mr_pc x) u d M + mr_SA p (mr_pc x) u d _ = 0
    rw [ih M (by omega) (by omega), ih _ (by omega) (by omega)]
/-! the check of a clue -/
def mr_ckc (cl : Nat → Int32) (M op : Int32) (c : Nat) : Prop := mr_pc (mr_nb c &&& M) ≤ mr_kl cl c ∧ mr_kl cl c ≤ mr_pc (mr_nb c &&& M) + mr_pc (mr_nb c &&& op)
/-- the component: the clues around the cell that was set -/
def mr_cs (cl : Nat → Int32) (M op : Int32) (cell : Nat) : Prop := ∀ c, c < 20 → cl c ≠ -1 → bt (mr_nb c) cell = true → mr_ckc cl M op c
/-- the reference: all clues -/
def mr_cb (cl : Nat → Int32) (M op : Int32) : Prop := ∀ c, c < 20 → cl c ≠ -1 → mr_ckc cl M op c
def mr_okM (cl : Nat → Int32) (x : Int32) (p : Nat → Nat) (d : Nat) (M : Int32) : Prop := ∀ c, c < 20 → cl c ≠ -1 → (∃ j, bt x j = true ∧ mr_ct (bt x) j + d < mr_pc x ∧ bt (mr_nb c) j = true) → mr_ckc cl M (mr_op p (mr_pc x) d) c
theorem mr_pc_same {c x y : Int32} (h : ∀ i, i < 20 → bt c i = true → bt x i = bt y i) : mr_pc (c &&& x) = mr_pc (c &&& y) := mr_ct_congr fun i hi => by
  rw [b_and, b_and]
  cases e : bt c i with
  | false => rfl
  | true => rw [h i hi e]
/-- one more cell set, M to z -/
theorem mr_okM_step {cl : Nat → Int32} {x : Int32} {p : Nat → Nat} {d : Nat} {M z : Int32} (hx : mr_W x) (h : mr_Ls x p) (hd : d < mr_pc x) (H : mr_okM cl x p (d + 1) M)
    (hz : ∀ i, i < 20 → i ≠ p (mr_pc x - (d + 1)) → bt z i = bt M i) (hc : mr_cs cl z (mr_op p (mr_pc x) d) (p (mr_pc x - (d + 1)))) : mr_okM cl x p d z := by
  obtain ⟨a1, a2, a3⟩ := mr_Ls_at h (k := mr_pc x - (d + 1)) (by omega)
  rintro c hc1 hc2 ⟨j, j1, j2, j3⟩
  by_cases q : bt (mr_nb c) (p (mr_pc x - (d + 1))) = true
  · exact hc c hc1 hc2 q
  · have hj : j ≠ p (mr_pc x - (d + 1)) := fun e => q (by rw [← e]; exact j3)
    have hr : mr_ct (bt x) j ≠ mr_pc x - (d + 1) := fun e => hj (mr_ct_inj j1 a2 (by omega))
    have h1 := H c hc1 hc2 ⟨j, j1, by omega, j3⟩
    unfold mr_ckc at h1 ⊢
    have e1 : mr_pc (mr_nb c &&& z) = mr_pc (mr_nb c &&& M) := mr_pc_same fun i hi e => hz i hi fun e2 => q (by rw [← e2]; exact e)
    have e2 : mr_pc (mr_nb c &&& mr_op p (mr_pc x) (d + 1)) = mr_pc (mr_nb c &&& mr_op p (mr_pc x) d) := mr_pc_same fun i hi e => by
      show bt (mr_op p (mr_pc x) d ||| mr_bit (p (mr_pc x - (d + 1)))) i = _
      rw [b_or, mr_bit_ne (by omega) (by omega) (fun e2 => q (by rw [← e2]; exact e)), Bool.or_false]
    rw [e1, ← e2]
    exact h1
theorem mr_okM_leaf {cl : Nat → Int32} {x : Int32} {p : Nat → Nat} {M : Int32} (hx : mr_W x) (H : mr_okM cl x p 0 M) : mr_gd cl x M := by
  rintro c hc hs ⟨i, i1, i2⟩
  have h1 := H c hc hs ⟨i, i2, by rw [Nat.add_zero]; exact mr_ct_ltN (mr_W_lt hx i2) i2, (mr_nc_bt.mp i1).1⟩
  have h2 : mr_pc (mr_nb c &&& mr_op p (mr_pc x) 0) = 0 := mr_ct_z 20 fun j _ => by
    rw [show mr_op p (mr_pc x) 0 = 0 from rfl, b_and, b_0, Bool.and_false]
  unfold mr_ckc at h1
  rw [h2] at h1
  omega
theorem mr_cs_cut {cl : Nat → Int32} {x : Int32} {p : Nat → Nat} {d cell : Nat} {z : Int32} {u : Int32 → Nat} (hx : mr_W x) (hv : ∀ i, bt x i = true → bt (mr_cov cl) i = true) (h : mr_Ls x p) (hd : d ≤ mr_pc x)
    (hu : ∀ S, ¬ mr_gd cl x S → u S = 0) (hb : bt x cell = true) (hc : ¬ mr_cs cl z (mr_op p (mr_pc x) d) cell) : mr_SA p (mr_pc x) u d z = 0 := by
  unfold mr_cs at hc
  obtain ⟨c, hc⟩ := Classical.not_forall.mp hc
  have c1 : c < 20 := Classical.byContradiction fun e => hc fun q => absurd q e
  have c2 : cl c ≠ -1 := fun e => hc fun _ q => absurd e q
  have c3 : bt (mr_nb c) cell = true := Classical.byContradiction fun e => hc fun _ _ q => absurd q e
  have c4 : ¬ mr_ckc cl z (mr_op p (mr_pc x) d) c := fun e => hc fun _ _ _ => e
  refine mr_SA_0 (nb := mr_nb c) (kl := mr_kl cl c) hx h (fun S hS => hu S fun g => hS (g c c1 c2 ⟨cell, mr_nc_bt.mpr ⟨c3, hv _ hb⟩, hb⟩)) d z hd ?_
  unfold mr_ckc at c4
  omega
/-- all clues met -/
def mr_ga (cl : Nat → Int32) (S : Int32) : Prop := ∀ c, c < 20 → cl c ≠ -1 → mr_pc (mr_nb c &&& S) = mr_kl cl c
theorem mr_cb_leaf {cl : Nat → Int32} {p : Nat → Nat} {N : Nat} {M : Int32} (H : mr_cb cl M (mr_op p N 0)) : mr_ga cl M := by
  intro c hc hs
  have h1 := H c hc hs
  have h2 : mr_pc (mr_nb c &&& mr_op p N 0) = 0 := mr_ct_z 20 fun j _ => by
    rw [show mr_op p N 0 = 0 from rfl, b_and, b_0, Bool.and_false]
  unfold mr_ckc at h1
  rw [h2] at h1
  omega
theorem mr_cb_cut {cl : Nat → Int32} {x : Int32} {p : Nat → Nat} {d : Nat} {z : Int32} {u : Int32 → Nat} (hx : mr_W x) (h : mr_Ls x p) (hd : d ≤ mr_pc x)
    (hu : ∀ S, ¬ mr_ga cl S → u S = 0) (hc : ¬ mr_cb cl z (mr_op p (mr_pc x) d)) : mr_SA p (mr_pc x) u d z = 0 := by
  unfold mr_cb at hc
  obtain ⟨c, hc⟩ := Classical.not_forall.mp hc
  have c1 : c < 20 := Classical.byContradiction fun e => hc fun q => absurd q e
  have c2 : cl c ≠ -1 := fun e => hc fun _ q => absurd e q
  have c4 : ¬ mr_ckc cl z (mr_op p (mr_pc x) d) c := fun e => hc fun _ _ => e
  refine mr_SA_0 (nb := mr_nb c) (kl := mr_kl cl c) hx h (fun S hS => hu S fun g => hS (g c c1 c2)) d z hd ?_
  unfold mr_ckc at c4
  omega
/-! arrays of counts -/
def mr_ad (a : Nat → Int32) (f : Nat → Nat) : Nat → Int32 := fun j => a j + nI (f j)
theorem mr_ad_ad (a : Nat → Int32) (f g : Nat → Nat) : mr_ad (mr_ad a f) g = mr_ad a (fun j => f j + g j) := funext fun j => by
  show a j + nI (f j) + nI (g j) = a j + nI (f j + g j)
  rw [Int32.add_assoc, nI_add]
theorem mr_ad_0 (a : Nat → Int32) {f : Nat → Nat} (h : ∀ j, f j = 0) : mr_ad a f = a := funext fun j => by
  show a j + nI (f j) = a j
  rw [h, nI_0, Int32.add_zero]
theorem mr_ad_u (a : Nat → Int32) (k : Nat) : upd a k (a k + 1) = mr_ad a (fun j => mr_b (j = k)) := funext fun j => by
  show (if j = k then a k + 1 else a j) = a j + nI (mr_b (j = k))
  by_cases e : j = k
  · rw [if_pos e, mr_b_t e, e]; rfl
  · rw [if_neg e, mr_b_f e, nI_0, Int32.add_zero]
end
section
/-! the component: fillings of one group -/
def mr_QQ (q : Int32) (S : Int32) : Prop := ∃ c : Nat, c < 20 ∧ q = nI c ∧ bt S c = true
def mr_qok (q : Int32) : Prop := q = -1 ∨ ∃ c : Nat, c < 20 ∧ q = nI c
theorem mr_21 (g n : Nat) : (21 * nI g) + nI n = nI (21 * g + n) := by
  show nI 21 * nI g + nI n = _
  rw [pk_mul, nI_add]
section MX
variable {w cv gc rs ce mi dm df ck : Int32} {cl nr gs wy ww su sn ch ca sa : Nat → Int32}
theorem mx_list_l {post : SX → Prop} {x : Int32} (hp : ∀ ca' : Nat → Int32, (∀ c, c < 20 → bt x c = true → ca' (mr_ct (bt x) c) = nI c) → post (w, cv, gc, rs, nI (mr_pc x), mi, dm, df, ck, cl, nr, gs, wy, ww, su, sn, ch, ca', sa)) :
    ∀ (d i : Nat) (ca : Nat → Int32), i + d = 20 → (∀ c, c < i → bt x c = true → ca (mr_ct (bt x) c) = nI c) →
    wX_listCells_7 post x w cv gc rs mi dm df ck (d + 1) (nI i) (nI (mr_ct (bt x) i)) cl nr gs wy ww su sn ch ca sa := by
  intro d
  induction d with
  | zero =>
    intro i ca hi H
    have : i = 20 := by omega
    subst this
    exact pk_le 20 20 (fun _ => hp ca H) (fun h => absurd h (by omega))
  | succ d ih =>
    intro i ca hi H
    have hr : mr_ct (bt x) i ≤ i := mr_ct_le _ _
    refine pk_le 20 i (fun h => absurd h (by omega)) (fun _ => mx_has (by omega) (fun e => br_f (by decide) ?_) (fun e => br_t rfl ?_))
    · refine And.intro (pk_in (mr_ct (bt x) i) 20 (by omega)) ?_
      have h1 := ih (i + 1) (upd ca (mr_ct (bt x) i) (nI i)) (by omega) (fun c hc hb => by
        by_cases q : c = i
        · subst q; exact pk_us
        · have := mr_ct_ltN (f := bt x) (m := c) (n := i) (by omega) hb
          rw [pk_un (by omega)]
          exact H c (by omega) hb)
      rw [mr_ct_t e] at h1
      exact nm_r (e' := upd ca (mr_ct (bt x) i) (nI i)) (by rw [nI_clamp (by omega)]) (nm_r (nI_1 _) (nm_r (nI_1 i) h1))
    · have h1 := ih (i + 1) ca (by omega) (fun c hc hb => by
        by_cases q : c = i
        · subst q; rw [e] at hb; exact absurd hb (by decide)
        · exact H c (by omega) hb)
      rw [mr_ct_f e] at h1
      exact nm_r (nI_1 i) h1
theorem mx_list {post : SX → Prop} {x : Int32} (hp : ∀ ca' : Nat → Int32, (∀ c, c < 20 → bt x c = true → ca' (mr_ct (bt x) c) = nI c) → post (w, cv, gc, rs, nI (mr_pc x), mi, dm, df, ck, cl, nr, gs, wy, ww, su, sn, ch, ca', sa)) :
    wpX_listCells post (w, cv, gc, rs, ce, mi, dm, df, ck, cl, nr, gs, wy, ww, su, sn, ch, ca, sa) x :=
  Exists.intro 21 (mx_list_l hp 20 0 ca rfl (fun c h => absurd h (Nat.not_lt_zero c)))
theorem mx_meet {post : Int32 → Prop} (hok : mr_ok cl) {c : Nat} {op : Int32} (hc : c < 20) (hs : cl c ≠ -1) (h1 : mr_ckc cl mi op c → post 1) (h0 : ¬ mr_ckc cl mi op c → post 0) :
    wpX_canMeet post (w, cv, gc, rs, ce, mi, dm, df, ck, cl, mr_nb, gs, wy, ww, su, sn, ch, ca, sa) (nI c) op := by
  have hk : (nI c).toNatClampNeg = c := nI_clamp (by omega)
  have hv : vp_in (nI c) 20 := pk_in c 20 (by omega)
  obtain ⟨e, hl⟩ := mr_kl_e hok hc hs
  have p1 := mr_pc_le (mr_nb c &&& mi)
  have p2 := mr_pc_le (mr_nb c &&& op)
  refine And.intro hv ?_
  rw [hk]
  refine mx_bits (mr_W_and (mr_nb_W c)) (And.intro hv ?_)
  refine mx_bits (mr_W_and (mr_nb_W c)) (And.intro hv ?_)
  rw [e]
  refine pk_lt (mr_kl cl c) (mr_pc (mr_nb c &&& mi)) (fun q => h0 fun z => ?_) (fun q => And.intro hv (pk_lt (mr_pc (mr_nb c &&& mi) + mr_pc (mr_nb c &&& op)) (mr_kl cl c) (fun r => h0 fun z => ?_) (fun r => h1 ⟨q, r⟩) (nI_add _ _)))
  · have := z.1; omega
  · have := z.2; omega
theorem mx_cs0 {post : Int32 → Prop} {x1 x2 : Int32} (hp : post 0) (n i : Nat) (hi : i ≤ 20) : wX_canStand_5 post x1 x2 w cv gc rs ce mi dm df ck cl nr gs wy ww su sn ch ca sa (n + 1) 0 (nI i) :=
  pk_le 20 i (fun _ => And.intro narrow_b0 hp) (fun _ => br_t rfl (And.intro narrow_b0 hp))
theorem mx_cs_l {post : Int32 → Prop} (hok : mr_ok cl) {cell : Nat} {op : Int32} (hcell : cell < 20) (h1 : mr_cs cl mi op cell → post 1) (h0 : ¬ mr_cs cl mi op cell → post 0) :
    ∀ (d i : Nat), i + d = 20 → (∀ c, c < i → cl c ≠ -1 → bt (mr_nb c) cell = true → mr_ckc cl mi op c) →
    wX_canStand_5 post (nI cell) op w cv gc rs ce mi dm df ck cl mr_nb gs wy ww su sn ch ca sa (d + 1) 1 (nI i) := by
  intro d
  induction d with
  | zero =>
    intro i hi H
    have : i = 20 := by omega
    subst this
    exact pk_le 20 20 (fun _ => And.intro narrow_b1 (h1 H)) (fun h => absurd h (by omega))
  | succ d ih =>
    intro i hi H
    have hk : (nI i).toNatClampNeg = i := nI_clamp (by omega)
    have hv : vp_in (nI i) 20 := pk_in i 20 (by omega)
    have nx : (cl i ≠ -1 → bt (mr_nb i) cell = true → mr_ckc cl mi op i) → wX_canStand_5 post (nI cell) op w cv gc rs ce mi dm df ck cl mr_nb gs wy ww su sn ch ca sa (d + 1) 1 (nI (i + 1)) := fun q => ih (i + 1) (by omega) fun c hc => by
      by_cases z : c = i
      · subst z; exact q
      · exact H c (by omega)
    refine pk_le 20 i (fun h => absurd h (by omega)) (fun _ => br_f (by decide) (And.intro hv (br_c (fun e => ?_) (fun e => And.intro hv ?_))))
    · rw [hk] at e
      exact nm_r (nI_1 i) (nx fun z => absurd e z)
    · rw [hk] at e ⊢
      refine mx_has (by omega) (fun m => br_f (by decide) (mx_meet hok (by omega) e (fun g => br_f (by decide) ?_) (fun g => br_t rfl ?_))) (fun m => br_t rfl ?_)
      · exact nm_r (nI_1 i) (nx fun _ _ => g)
      · exact nm_r (nI_1 i) (mx_cs0 (h0 fun z => g (z i (by omega) e m)) d (i + 1) (by omega))
      · exact nm_r (nI_1 i) (nx fun _ z => by rw [m] at z; exact absurd z (by decide))
theorem mx_cs {post : Int32 → Prop} (hok : mr_ok cl) {cell : Nat} {op : Int32} (hcell : cell < 20) (h1 : mr_cs cl mi op cell → post 1) (h0 : ¬ mr_cs cl mi op cell → post 0) :
    wpX_canStand post (w, cv, gc, rs, ce, mi, dm, df, ck, cl, mr_nb, gs, wy, ww, su, sn, ch, ca, sa) (nI cell) op :=
  Exists.intro 21 (mx_cs_l hok hcell h1 h0 20 0 rfl (fun c h => absurd h (Nat.not_lt_zero c)))
theorem mx_open_l {post : Int32 → Prop} {p : Nat → Nat} {N : Nat} (hN : N ≤ 20) (hca : ∀ i, i < N → ca i = nI (p i)) : ∀ (d i : Nat) (a : Int32), i + d = N → post (a ||| mr_op p N d) →
    wX_openFrom_4 post w cv gc rs (nI N) mi dm df ck cl nr gs wy ww su sn ch ca sa (d + 1) a (nI i) := by
  intro d
  induction d with
  | zero =>
    intro i a hi hp
    rw [show mr_op p N 0 = 0 from rfl, mr_or_0] at hp
    exact pk_le N i (fun _ => hp) (fun h => absurd h (by omega))
  | succ d ih =>
    intro i a hi hp
    have hk : (nI i).toNatClampNeg = i := nI_clamp (by omega)
    refine pk_le N i (fun h => absurd h (by omega)) (fun _ => And.intro (pk_in i 20 (by omega)) ?_)
    refine nm_r (e' := a ||| mr_bit (p i)) (by rw [hk, hca i (by omega)]; rfl) (nm_r (nI_1 i) (ih (i + 1) _ (by omega) ?_))
    rw [mr_or_as, mr_or_cm (mr_bit (p i)), show i = N - (d + 1) by omega]
    exact hp
theorem mx_open {post : Int32 → Prop} {p : Nat → Nat} {N d k : Nat} (hN : N ≤ 20) (hca : ∀ i, i < N → ca i = nI (p i)) (hk : k + d = N) (hp : post (mr_op p N d)) :
    wpX_openFrom post (w, cv, gc, rs, nI N, mi, dm, df, ck, cl, nr, gs, wy, ww, su, sn, ch, ca, sa) (nI k) :=
  Exists.intro (d + 1) (mx_open_l hN hca d k 0 hk (by rw [mr_or_cm, mr_or_0]; exact hp))
theorem mx_note {post : SX → Prop} {g : Nat} {q : Int32} (hg : g < 20) (hq : mr_qok q) (hm : mr_W mi)
    (hp : post (w, cv, gc, rs, ce, mi, dm, df, ck, cl, nr, gs, mr_ad wy (fun j => mr_b (j = 21 * g + mr_pc mi)), mr_ad ww (fun j => mr_b (mr_QQ q mi ∧ j = 21 * g + mr_pc mi)), su, sn, ch, ca, sa)) :
    wpX_noteWay post (w, cv, gc, rs, ce, mi, dm, df, ck, cl, nr, gs, wy, ww, su, sn, ch, ca, sa) (nI g) q := by
  have hl := mr_pc_le mi
  have hv : vp_in ((21 * nI g) + nI (mr_pc mi)) 420 := pk_in (21 * g + mr_pc mi) 420 (by omega) (mr_21 _ _)
  have hk : ((21 * nI g) + nI (mr_pc mi)).toNatClampNeg = 21 * g + mr_pc mi := by rw [mr_21]; exact nI_clamp (by omega)
  refine mx_bits hm (And.intro hv (And.intro hv ?_))
  rw [hk]
  refine nm_r (mr_ad_u wy _) ?_
  rcases hq with e | ⟨c, hc, e⟩
  · refine br_t e ?_
    rw [mr_ad_0 ww (fun j => mr_b_f (fun z => by
      obtain ⟨⟨c, hc, e2, _⟩, _⟩ := z
      exact mr_n1 (by omega) (e2.symm.trans e)))] at hp
    exact hp
  · subst e
    refine br_f (mr_n1 (by omega)) (mx_has (by omega) (fun m => br_f (by decide) (And.intro hv (And.intro hv ?_))) (fun m => br_t rfl ?_))
    · skip
      refine nm_r (mr_ad_u ww _) ?_
      rw [show (fun j => mr_b (mr_QQ (nI c) mi ∧ j = 21 * g + mr_pc mi)) = (fun j => mr_b (j = 21 * g + mr_pc mi)) from funext fun j => mr_b_iff ⟨fun z => z.2, fun z => ⟨⟨c, hc, rfl, m⟩, z⟩⟩] at hp
      exact hp
    · rw [mr_ad_0 ww (fun j => mr_b_f (fun z => by
        obtain ⟨⟨c2, hc2, e2, e3⟩, _⟩ := z
        rw [nI_eq (by omega) (by omega)] at e2
        rw [← e2, m] at e3
        exact absurd e3 (by decide)))] at hp
      exact hp
theorem mx_try38 {post : Int32 → SX → Prop} (hok : mr_ok cl) {p : Nat → Nat} {N k d : Nat} {z : Int32} (hN : N ≤ 20) (hca : ∀ i, i < N → ca i = nI (p i)) (hp20 : p k < 20) (hk : k + (d + 1) = N)
    (h1 : mr_cs cl z (mr_op p N d) (p k) → post (nI (k + 1)) (w, cv, gc, rs, nI N, z, dm, df, ck, cl, mr_nb, gs, wy, ww, su, sn, ch, ca, upd (upd sa k (sa k + 1)) (k + 1) 0))
    (h0 : ¬ mr_cs cl z (mr_op p N d) (p k) → post (nI k) (w, cv, gc, rs, nI N, z, dm, df, ck, cl, mr_nb, gs, wy, ww, su, sn, ch, ca, upd sa k (sa k + 1))) :
    wX_tryCell_38 post (nI k) (nI (p k)) z w cv gc rs (nI N) mi dm df ck cl mr_nb gs wy ww su sn ch ca sa := by
  have hc : (nI k).toNatClampNeg = k := nI_clamp (by omega)
  have hv : vp_in (nI k) 21 := pk_in k 21 (by omega)
  unfold wX_tryCell_38
  refine And.intro hv (And.intro hv (nm_r (e' := upd sa k (sa k + 1)) (by rw [hc]) ?_))
  rw [nI_1]
  refine mx_open (d := d) hN hca (by omega) (mx_cs hok hp20 (fun g => br_f (by decide) (And.intro (pk_in (k + 1) 21 (by omega)) (nm_r (e' := upd (upd sa k (sa k + 1)) (k + 1) 0) (by rw [nI_clamp (by omega)]) ?_))) (fun g => br_t rfl ?_))
  · unfold wX_tryCell_81
    refine br_f (by decide) ?_
    rw [nI_1]
    exact h1 g
  · unfold wX_tryCell_81
    exact br_t rfl (h0 g)
end MX
end
section
/-! the component's search -/
section MX
variable {w gc rs dm df ck : Int32} {cl gs su sn ch ca : Nat → Int32}
theorem mr_clear {M : Int32} {c : Nat} (hc : c < 32) (h : bt M c = false) : M &&& (mr_bit c ^^^ (-1)) = M := b_ext fun i hi => by
  rw [b_and, mr_not hi, mr_bit_bt hc hi]
  by_cases e : i = c
  · rw [e, h]; rfl
  · rw [decide_eq_false e]; exact Bool.and_true _
theorem mr_clear2 {M : Int32} {c : Nat} (hc : c < 32) (h : bt M c = false) : (M ||| mr_bit c) &&& (mr_bit c ^^^ (-1)) = M := b_ext fun i hi => by
  rw [b_and, b_or, mr_not hi, mr_bit_bt hc hi]
  by_cases e : i = c
  · rw [e, h, decide_eq_true rfl]; rfl
  · rw [decide_eq_false e, Bool.or_false]; exact Bool.and_true _
/-- one try of a cell and what lies behind it; z: the mines with it -/
def mx_T (post : SX → Prop) (q : Int32) (g : Nat) (x : Int32) (p : Nat → Nat) (A B : Int32 → Nat → Nat) (w gc rs dm df ck : Int32) (cl gs su sn ch ca : Nat → Int32) (d k : Nat) (z : Int32) : Prop :=
  ∃ cost, cost + 3 ≤ 4 * 2 ^ d ∧ ∀ (n r : Nat) (mi : Int32) (wy ww sa : Nat → Int32), r + cost + 1 < 5000000 → sa k ≠ 2 →
    (sa k = 0 → mi &&& (mr_bit (p k) ^^^ (-1)) = z) → (sa k ≠ 0 → mi ||| mr_bit (p k) = z) →
    (∀ sa' : Nat → Int32, (∀ i, i < k → sa' i = sa i) → sa' k = sa k + 1 →
      wX_fillGroup_65 post (nI g) q n (nI k) (nI (r + cost + 1)) w (mr_cov cl) gc rs (nI (mr_pc x)) z dm df ck cl mr_nb gs (mr_ad wy (fun j => mr_SA p (mr_pc x) (fun S => A S j) d z)) (mr_ad ww (fun j => mr_SA p (mr_pc x) (fun S => B S j) d z)) su sn ch ca sa') →
    wX_fillGroup_65 post (nI g) q (n + cost + 1) (nI k) (nI r) w (mr_cov cl) gc rs (nI (mr_pc x)) mi dm df ck cl mr_nb gs wy ww su sn ch ca sa
def mx_D (post : SX → Prop) (q : Int32) (g : Nat) (x : Int32) (p : Nat → Nat) (A B : Int32 → Nat → Nat) (w gc rs dm df ck : Int32) (cl gs su sn ch ca : Nat → Int32) (d k : Nat) (M : Int32) : Prop :=
  ∃ cost, cost + 3 ≤ 4 * 2 ^ d ∧ ∀ (n r : Nat) (wy ww sa : Nat → Int32), r + cost < 5000000 → sa k = 0 →
    (∀ sa' : Nat → Int32, (∀ i, i < k → sa' i = sa i) →
      wX_fillGroup_65 post (nI g) q n (nI k + (-1)) (nI (r + cost)) w (mr_cov cl) gc rs (nI (mr_pc x)) M dm df ck cl mr_nb gs (mr_ad wy (fun j => mr_SA p (mr_pc x) (fun S => A S j) d M)) (mr_ad ww (fun j => mr_SA p (mr_pc x) (fun S => B S j) d M)) su sn ch ca sa') →
    wX_fillGroup_65 post (nI g) q (n + cost) (nI k) (nI r) w (mr_cov cl) gc rs (nI (mr_pc x)) M dm df ck cl mr_nb gs wy ww su sn ch ca sa
theorem mx_T_of {post : SX → Prop} {q : Int32} {g : Nat} {x : Int32} {p : Nat → Nat} {A B : Int32 → Nat → Nat} (hok : mr_ok cl) (hx : mr_W x) (hv : ∀ i, bt x i = true → bt (mr_cov cl) i = true) (hL : mr_Ls x p)
    (hca : ∀ i, i < mr_pc x → ca i = nI (p i)) (hA : ∀ S j, ¬ mr_gd cl x S → A S j = 0) (hB : ∀ S j, ¬ mr_gd cl x S → B S j = 0) {d k : Nat} {z : Int32} (hk : k + (d + 1) = mr_pc x)
    (ih : mr_cs cl z (mr_op p (mr_pc x) d) (p k) → mx_D post q g x p A B w gc rs dm df ck cl gs su sn ch ca d (k + 1) z) : mx_T post q g x p A B w gc rs dm df ck cl gs su sn ch ca d k z := by
  have hN := mr_pc_le x
  obtain ⟨a1, a2, a3⟩ := mr_Ls_at hL (k := k) (by omega)
  have hkc : (nI k).toNatClampNeg = k := nI_clamp (by omega)
  have h2d : 0 < 2 ^ d := Nat.two_pow_pos d
  by_cases hc : mr_cs cl z (mr_op p (mr_pc x) d) (p k)
  · obtain ⟨cost, c1, c2⟩ := ih hc
    refine ⟨cost, c1, fun n r mi wy ww sa hr h2 hz0 hz1 K => ?_⟩
    refine pk_le 5000000 r (fun h => absurd h (by omega)) (fun _ => br_f (nI_pos (by omega)) (pk_eq k (mr_pc x) (fun h => absurd h (by omega)) (fun _ => And.intro (pk_in k 21 (by omega)) ?_)))
    rw [hkc]
    refine br_f h2 (And.intro (pk_in k 20 (by omega)) (nm_r (e' := nI (p k)) (by rw [hkc, hca k (by omega)]) (And.intro (pk_in k 21 (by omega)) ?_)))
    have key : wX_tryCell_38 (fun r_30 u => match u with
        | (f1, f2, f3, f4, f5, f6, f7, f8, f9, g1, g2, g3, g4, g5, g6, g7, g8, g9, g10) => ∀ y, y = nI r + 1 → wX_fillGroup_65 post (nI g) q (n + cost) r_30 y f1 f2 f3 f4 f5 f6 f7 f8 f9 g1 g2 g3 g4 g5 g6 g7 g8 g9 g10) (nI k) (nI (p k)) z w (mr_cov cl) gc rs (nI (mr_pc x)) mi dm df ck cl mr_nb gs wy ww su sn ch ca sa := by
      refine mx_try38 (d := d) hok hN hca a1 hk (fun _ => ?_) (fun h => absurd hc h)
      refine nm_r (nI_1 r) (c2 n (r + 1) wy ww _ (by omega) pk_us fun sa' hs => ?_)
      rw [pk_m1, show r + 1 + cost = r + cost + 1 by omega]
      refine K sa' (fun i hi => ?_) ?_
      · rw [hs i (by omega), pk_un (by omega), pk_un (by omega)]
      · rw [hs k (by omega), pk_un (by omega), pk_us]
    rw [hkc]
    refine br_c (fun e => ?_) (fun e => ?_)
    · have e2 := hz0 e
      rw [← e2] at key
      exact key
    · have e2 := hz1 e
      rw [← e2] at key
      exact key
  · refine ⟨0, by omega, fun n r mi wy ww sa hr h2 hz0 hz1 K => ?_⟩
    refine pk_le 5000000 r (fun h => absurd h (by omega)) (fun _ => br_f (nI_pos (by omega)) (pk_eq k (mr_pc x) (fun h => absurd h (by omega)) (fun _ => And.intro (pk_in k 21 (by omega)) ?_)))
    rw [hkc]
    refine br_f h2 (And.intro (pk_in k 20 (by omega)) (nm_r (e' := nI (p k)) (by rw [hkc, hca k (by omega)]) (And.intro (pk_in k 21 (by omega)) ?_)))
    have key : wX_tryCell_38 (fun r_30 u => match u with
        | (f1, f2, f3, f4, f5, f6, f7, f8, f9, g1, g2, g3, g4, g5, g6, g7, g8, g9, g10) => ∀ y, y = nI r + 1 → wX_fillGroup_65 post (nI g) q (n + 0) r_30 y f1 f2 f3 f4 f5 f6 f7 f8 f9 g1 g2 g3 g4 g5 g6 g7 g8 g9 g10) (nI k) (nI (p k)) z w (mr_cov cl) gc rs (nI (mr_pc x)) mi dm df ck cl mr_nb gs wy ww su sn ch ca sa := by
      refine mx_try38 (d := d) hok hN hca a1 hk (fun h => absurd h hc) (fun _ => ?_)
      have K2 := K (upd sa k (sa k + 1)) (fun i hi => pk_un (by omega)) pk_us
      rw [mr_ad_0 wy (fun j => mr_cs_cut hx hv hL (by omega) (fun S hS => hA S j hS) a2 hc), mr_ad_0 ww (fun j => mr_cs_cut hx hv hL (by omega) (fun S hS => hB S j hS) a2 hc)] at K2
      exact nm_r (nI_1 r) K2
    rw [hkc]
    refine br_c (fun e => ?_) (fun e => ?_)
    · have e2 := hz0 e
      rw [← e2] at key
      exact key
    · have e2 := hz1 e
      rw [← e2] at key
      exact key
theorem mx_D_all {post : SX → Prop} {q : Int32} {g : Nat} {x : Int32} {p : Nat → Nat} (hok : mr_ok cl) (hx : mr_W x) (hv : ∀ i, bt x i = true → bt (mr_cov cl) i = true) (hL : mr_Ls x p)
    (hca : ∀ i, i < mr_pc x → ca i = nI (p i)) (hg : g < 20) (hq : mr_qok q) : ∀ (d k : Nat) (M : Int32), k + d = mr_pc x → mr_W M → (∀ j, bt M j = true → bt x j = true ∧ mr_ct (bt x) j < k) → mr_okM cl x p d M →
    mx_D post q g x p (fun S j => mr_b (mr_gd cl x S ∧ j = 21 * g + mr_pc S)) (fun S j => mr_b (mr_gd cl x S ∧ mr_QQ q S ∧ j = 21 * g + mr_pc S)) w gc rs dm df ck cl gs su sn ch ca d k M := by
  have hN := mr_pc_le x
  intro d
  induction d with
  | zero =>
    intro k M hk hM hs ho
    have hgd := mr_okM_leaf hx ho
    refine ⟨1, by decide, fun n r wy ww sa hr h0 K => ?_⟩
    refine pk_le 5000000 r (fun h => absurd h (by omega)) (fun _ => br_f (nI_pos (by omega)) (pk_eq k (mr_pc x) (fun _ => ?_) (fun h => absurd hk h)))
    refine mx_note hg hq hM (nm_e (nm_r (nI_1 r) ?_))
    have K2 := K sa (fun i _ => rfl)
    rw [show (fun j => mr_SA p (mr_pc x) (fun S => mr_b (mr_gd cl x S ∧ j = 21 * g + mr_pc S)) 0 M) = (fun j => mr_b (j = 21 * g + mr_pc M)) from funext fun j => mr_b_iff ⟨fun z => z.2, fun z => ⟨hgd, z⟩⟩,
      show (fun j => mr_SA p (mr_pc x) (fun S => mr_b (mr_gd cl x S ∧ mr_QQ q S ∧ j = 21 * g + mr_pc S)) 0 M) = (fun j => mr_b (mr_QQ q M ∧ j = 21 * g + mr_pc M)) from funext fun j => mr_b_iff ⟨fun z => z.2, fun z => ⟨hgd, z⟩⟩] at K2
    exact K2
  | succ d ih =>
    intro k M hk hM hs ho
    obtain ⟨a1, a2, a3⟩ := mr_Ls_at hL (k := k) (by omega)
    have hkc : (nI k).toNatClampNeg = k := nI_clamp (by omega)
    have ek : mr_pc x - (d + 1) = k := by omega
    have hno : bt M (p k) = false := Bool.eq_false_iff.mpr fun z => by
      have := (hs _ z).2
      omega
    have hWz : mr_W (M ||| mr_bit (p k)) := mr_W_or hM (mr_W_bit a1)
    obtain ⟨c1, b1, t1⟩ := mx_T_of (post := post) (q := q) (g := g) (w := w) (gc := gc) (rs := rs) (dm := dm) (df := df) (ck := ck) (gs := gs) (su := su) (sn := sn) (ch := ch)
      (A := fun S j => mr_b (mr_gd cl x S ∧ j = 21 * g + mr_pc S)) (B := fun S j => mr_b (mr_gd cl x S ∧ mr_QQ q S ∧ j = 21 * g + mr_pc S)) hok hx hv hL hca
      (fun S j h => mr_b_f fun z => h z.1) (fun S j h => mr_b_f fun z => h z.1) (z := M) hk
      (fun hc => ih (k + 1) M (by omega) hM (fun j hj => ⟨(hs j hj).1, by have := (hs j hj).2; omega⟩) (mr_okM_step hx hL (by omega) ho (fun i _ _ => rfl) (by rw [ek]; exact hc)))
    obtain ⟨c2, b2, t2⟩ := mx_T_of (post := post) (q := q) (g := g) (w := w) (gc := gc) (rs := rs) (dm := dm) (df := df) (ck := ck) (gs := gs) (su := su) (sn := sn) (ch := ch)
      (A := fun S j => mr_b (mr_gd cl x S ∧ j = 21 * g + mr_pc S)) (B := fun S j => mr_b (mr_gd cl x S ∧ mr_QQ q S ∧ j = 21 * g + mr_pc S)) hok hx hv hL hca
      (fun S j h => mr_b_f fun z => h z.1) (fun S j h => mr_b_f fun z => h z.1) (z := M ||| mr_bit (p k)) hk
      (fun hc => ih (k + 1) _ (by omega) hWz (fun j hj => by
          have hl := mr_W_lt hWz hj
          rw [b_or, Bool.or_eq_true] at hj
          rcases hj with e | e
          · exact ⟨(hs j e).1, by have := (hs j e).2; omega⟩
          · rw [mr_bit_iff (by omega) (by omega)] at e
            rw [e]; exact ⟨a2, by omega⟩)
        (mr_okM_step hx hL (by omega) ho (fun i hi hne => by rw [b_or, mr_bit_ne (by omega) (by omega) (by rw [ek] at hne; exact hne), Bool.or_false]) (by rw [ek]; exact hc)))
    refine ⟨c1 + c2 + 3, by rw [Nat.pow_succ]; omega, fun n r wy ww sa hr h0 K => ?_⟩
    rw [show n + (c1 + c2 + 3) = ((n + 1) + c2 + 1) + c1 + 1 by omega]
    refine t1 ((n + 1) + c2 + 1) r M wy ww sa (by omega) (by rw [h0]; decide) (fun _ => mr_clear (by omega) hno) (fun z => absurd h0 z) fun sa1 s1 s1k => ?_
    rw [h0] at s1k
    refine t2 (n + 1) (r + c1 + 1) M _ _ sa1 (by omega) (by rw [s1k]; decide) (fun z => by rw [s1k] at z; exact absurd z (by decide)) (fun _ => rfl) fun sa2 s2 s2k => ?_
    rw [s1k] at s2k
    refine pk_le 5000000 (r + c1 + 1 + c2 + 1) (fun h => absurd h (by omega)) (fun _ => br_f (nI_pos (by omega)) (pk_eq k (mr_pc x) (fun h => absurd h (by omega)) (fun _ => And.intro (pk_in k 21 (by omega)) ?_)))
    rw [hkc]
    refine br_t (by rw [s2k]; decide) (And.intro (pk_in k 20 (by omega)) (nm_r (e' := M) ?_ (nm_e (nm_r (nI_1 _) ?_))))
    · rw [hca k (by omega)]; exact mr_clear2 (by omega) hno
    · have K2 := K sa2 (fun i hi => by rw [s2 i hi, s1 i hi])
      rw [mr_ad_ad, mr_ad_ad, show r + c1 + 1 + c2 + 1 + 1 = r + (c1 + c2 + 3) by omega]
      rw [← ek] at K2 ⊢
      exact K2
end MX
end
section
/-! the component: a group filled, empty clues, convolutions -/
def mr_C : Nat → Nat → Nat
  | _, 0 => 1
  | 0, _ + 1 => 0
  | n + 1, k + 1 => mr_C n k + mr_C n (k + 1)
theorem mr_C_0 : ∀ n k, n < k → mr_C n k = 0 := by
  intro n
  induction n with
  | zero =>
    intro k hk
    obtain ⟨j, rfl⟩ : ∃ j, k = j + 1 := ⟨k - 1, by omega⟩
    rfl
  | succ n ih =>
    intro k hk
    obtain ⟨j, rfl⟩ : ∃ j, k = j + 1 := ⟨k - 1, by omega⟩
    show mr_C n j + mr_C n (j + 1) = 0
    rw [ih j (by omega), ih (j + 1) (by omega)]
noncomputable def mr_cj (f h : Nat → Nat) (n : Nat) : Nat := mr_sm (fun a => mr_b (a ≤ n) * (f a * h (n - a))) 21
noncomputable def mr_cp (f h : Nat → Nat) (N m j : Nat) : Nat := mr_sm (fun a => mr_b (a ≤ j) * (f a * h (j - a))) N + mr_b (N ≤ j ∧ j < N + m) * (f N * h (j - N))
theorem mr_cp_z (f h : Nat → Nat) (N j : Nat) : mr_cp f h N 0 j = mr_sm (fun a => mr_b (a ≤ j) * (f a * h (j - a))) N := by
  unfold mr_cp
  rw [mr_b_f (by omega), Nat.zero_mul, Nat.add_zero]
theorem mr_cp_s {f h : Nat → Nat} {N m j : Nat} (hj : j ≠ N + m) : mr_cp f h N (m + 1) j = mr_cp f h N m j := by
  unfold mr_cp
  rw [mr_b_iff (p := N ≤ j ∧ j < N + (m + 1)) (q := N ≤ j ∧ j < N + m) (by omega)]
theorem mr_cp_t (f h : Nat → Nat) (N m : Nat) : mr_cp f h N (m + 1) (N + m) = mr_cp f h N m (N + m) + f N * h m := by
  unfold mr_cp
  rw [mr_b_t (p := N ≤ N + m ∧ N + m < N + (m + 1)) (by omega), mr_b_f (p := N ≤ N + m ∧ N + m < N + m) (by omega), Nat.one_mul, Nat.zero_mul, Nat.add_zero, show N + m - N = m by omega]
theorem mr_cp_e {f h : Nat → Nat} {N m j : Nat} (hj : N + m ≤ j → h (j - N) = 0) : mr_cp f h N m j = mr_cp f h (N + 1) 0 j := by
  rw [mr_cp_z]
  unfold mr_cp
  show _ = mr_sm (fun a => mr_b (a ≤ j) * (f a * h (j - a))) N + mr_b (N ≤ j) * (f N * h (j - N))
  by_cases q : N + m ≤ j
  · rw [hj q, Nat.mul_zero, Nat.mul_zero, Nat.mul_zero]
  · rw [mr_b_iff (p := N ≤ j ∧ j < N + m) (q := N ≤ j) (by omega)]
section MX
variable {w cv gc rs ce mi dm df ck : Int32} {cl nr gs wy ww su sn ch ca sa : Nat → Int32}
theorem mx_fill12 {post : SX → Prop} {g : Nat} {q : Int32} (hg : g < 20)
    (hp : ∀ wy ww : Nat → Int32, (∀ m, m < 21 → wy (21 * g + m) = 0 ∧ ww (21 * g + m) = 0) → ∃ n, wX_fillGroup_65 post (nI g) q n 0 0 w cv gc rs ce 0 dm df ck cl nr gs wy ww su sn ch ca (upd sa 0 0)) :
    ∀ (d i : Nat) (wy ww : Nat → Int32), i + d = 21 → (∀ m, m < i → wy (21 * g + m) = 0 ∧ ww (21 * g + m) = 0) →
    wX_fillGroup_12 post (nI g) q w cv gc rs ce mi dm df ck (d + 1) (nI i) cl nr gs wy ww su sn ch ca sa := by
  intro d
  induction d with
  | zero =>
    intro i wy ww hi H
    have : i = 21 := by omega
    subst this
    exact pk_le 21 21 (fun _ => nm_e (hp wy ww H)) (fun h => absurd h (by omega))
  | succ d ih =>
    intro i wy ww hi H
    have hv : vp_in ((21 * nI g) + nI i) 420 := pk_in (21 * g + i) 420 (by omega) (mr_21 _ _)
    have hk : ((21 * nI g) + nI i).toNatClampNeg = 21 * g + i := by rw [mr_21]; exact nI_clamp (by omega)
    refine pk_le 21 i (fun h => absurd h (by omega)) (fun _ => And.intro hv (nm_r (e' := upd wy (21 * g + i) 0) (by rw [hk]) (And.intro hv (nm_r (e' := upd ww (21 * g + i) 0) (by rw [hk]) (nm_r (nI_1 i) (ih (i + 1) _ _ (by omega) fun m hm => ?_))))))
    by_cases e : m = i
    · subst e; exact ⟨pk_us, pk_us⟩
    · rw [pk_un (by omega), pk_un (by omega)]; exact H m (by omega)
theorem mx_fill {post : SX → Prop} (hok : mr_ok cl) {g : Nat} {q : Int32} (hg : g < 20) (hq : mr_qok q) (hx : mr_W (gs g)) (hv : ∀ i, bt (gs g) i = true → bt (mr_cov cl) i = true)
    (hp : ∀ (ce mi : Int32) (wy ww ca sa : Nat → Int32), (∀ n, n < 21 → wy (21 * g + n) = nI (mr_PF cl (gs g) (fun _ => True) n)) → (∀ n, n < 21 → ww (21 * g + n) = nI (mr_PF cl (gs g) (mr_QQ q) n)) →
      post (w, mr_cov cl, gc, rs, ce, mi, dm, df, ck, cl, mr_nb, gs, wy, ww, su, sn, ch, ca, sa)) :
    wpX_fillGroup post (w, mr_cov cl, gc, rs, ce, mi, dm, df, ck, cl, mr_nb, gs, wy, ww, su, sn, ch, ca, sa) (nI g) q := by
  have hgc : (nI g).toNatClampNeg = g := nI_clamp (by omega)
  have hN := mr_pc_le (gs g)
  refine And.intro (pk_in g 20 (by omega)) ?_
  rw [hgc]
  refine mx_list fun ca' hca => Exists.intro 22 (mx_fill12 hg ?_ 21 0 wy ww rfl (fun m h => absurd h (Nat.not_lt_zero m)))
  intro wy0 ww0 H
  have hca2 : ∀ i, i < mr_pc (gs g) → ca' i = nI (ca' i).toNatClampNeg := fun i hi => by
    obtain ⟨c, c1, c2, c3⟩ := mr_ct_at 20 hi
    have e := hca c c1 c2
    rw [c3] at e
    rw [e, nI_clamp (by omega)]
  have hL : mr_Ls (gs g) (fun i => (ca' i).toNatClampNeg) := fun c c1 c2 => by
    show (ca' (mr_ct (bt (gs g)) c)).toNatClampNeg = c
    rw [hca c c1 c2, nI_clamp (by omega)]
  obtain ⟨cost, c1, c2⟩ := mx_D_all (post := post) (q := q) (g := g) (w := w) (gc := gc) (rs := rs) (dm := dm) (df := df) (ck := ck) (gs := gs) (su := su) (sn := sn) (ch := ch) hok hx hv hL hca2 hg hq (mr_pc (gs g)) 0 0 (by omega) mr_W0
    (fun j h => by rw [b_0] at h; exact absurd h (by decide)) (fun c _ _ ⟨j, _, j2, _⟩ => by omega)
  have hb : 4 * 2 ^ mr_pc (gs g) ≤ 4 * 2 ^ 20 := Nat.mul_le_mul_left 4 (Nat.pow_le_pow_right (by decide) hN)
  have hb2 : 4 * 2 ^ 20 = 4194304 := by decide
  refine ⟨1 + cost, c2 1 0 wy0 ww0 (upd sa 0 0) (by omega) pk_us fun sa' _ => ?_⟩
  refine pk_le 5000000 (0 + cost) (fun h => absurd h (by omega)) (fun _ => br_t (by decide) ?_)
  refine hp _ _ _ _ _ _ (fun n hn => ?_) (fun n hn => ?_)
  · show wy0 (21 * g + n) + nI _ = _
    rw [(H n hn).1, Int32.zero_add]
    dsimp only
    rw [mr_SA_all hL]
    refine congrArg nI (mr_SS_congr (by omega) mr_W0 fun S _ _ => mr_b_iff ?_)
    constructor
    · rintro ⟨a, b⟩; exact ⟨a, trivial, by omega⟩
    · rintro ⟨a, _, b⟩; exact ⟨a, by omega⟩
  · show ww0 (21 * g + n) + nI _ = _
    rw [(H n hn).2, Int32.zero_add]
    dsimp only
    rw [mr_SA_all hL]
    refine congrArg nI (mr_SS_congr (by omega) mr_W0 fun S _ _ => mr_b_iff ?_)
    constructor
    · rintro ⟨a, c, b⟩; exact ⟨a, c, by omega⟩
    · rintro ⟨a, c, b⟩; exact ⟨a, c, by omega⟩
/-- shown cells without covered neighbours have the clue 0 -/
def mr_LO (cl : Nat → Int32) : Prop := ∀ c, c < 20 → cl c ≠ -1 → mr_nc cl c = 0 → cl c = 0
theorem mx_ecg_l {post : Int32 → Prop} (h1 : mr_LO cl → post 1) (h0 : ¬ mr_LO cl → post 0) : ∀ (d i : Nat) (f : Int32), i + d = 20 → (f = 1 ∧ (∀ c, c < i → cl c ≠ -1 → mr_nc cl c = 0 → cl c = 0)) ∨ (f = 0 ∧ ¬ mr_LO cl) →
    wX_emptyCluesGood_4 post w (mr_cov cl) gc rs ce mi dm df ck cl mr_nb gs wy ww su sn ch ca sa (d + 1) f (nI i) := by
  intro d
  induction d with
  | zero =>
    intro i f hi H
    have : i = 20 := by omega
    subst this
    rcases H with ⟨rfl, H⟩ | ⟨rfl, H⟩
    · exact pk_le 20 20 (fun _ => And.intro narrow_b1 (h1 H)) (fun h => absurd h (by omega))
    · exact pk_le 20 20 (fun _ => And.intro narrow_b0 (h0 H)) (fun h => absurd h (by omega))
  | succ d ih =>
    intro i f hi H
    have hk : (nI i).toNatClampNeg = i := nI_clamp (by omega)
    have hv : vp_in (nI i) 20 := pk_in i 20 (by omega)
    refine pk_le 20 i (fun h => absurd h (by omega)) (fun _ => And.intro hv ?_)
    rw [hk]
    rcases H with ⟨rfl, H⟩ | ⟨rfl, H⟩
    · have nx : (cl i ≠ -1 → mr_nc cl i = 0 → cl i = 0) → wX_emptyCluesGood_4 post w (mr_cov cl) gc rs ce mi dm df ck cl mr_nb gs wy ww su sn ch ca sa (d + 1) 1 (nI (i + 1)) := fun z => ih (i + 1) 1 (by omega) (Or.inl ⟨rfl, fun c hc => by
        by_cases e : c = i
        · subst e; exact z
        · exact H c (by omega)⟩)
      refine br_c (fun e => ?_) (fun e => And.intro hv (br_c (fun m => ?_) (fun m => ?_)))
      · exact br_f (by decide) (br_t rfl (nm_r (nI_1 i) (nx fun z => absurd e z)))
      · refine br_f (by decide) (br_f (by decide) (And.intro hv ?_))
        rw [hk]
        refine br_c (fun z => nm_r (nI_1 i) (nx fun _ _ => z)) (fun z => nm_r (nI_1 i) (ih (i + 1) 0 (by omega) (Or.inr ⟨rfl, fun y => z (y i (by omega) e m)⟩)))
      · exact br_f (by decide) (br_t rfl (nm_r (nI_1 i) (nx fun _ z => absurd z m)))
    · have nx := ih (i + 1) 0 (by omega) (Or.inr ⟨rfl, H⟩)
      refine br_c (fun e => ?_) (fun e => And.intro hv (br_c (fun m => ?_) (fun m => ?_)))
      · exact br_t rfl (nm_r (nI_1 i) nx)
      · exact br_t rfl (nm_r (nI_1 i) nx)
      · exact br_t rfl (nm_r (nI_1 i) nx)
theorem mx_ecg {post : Int32 → Prop} (h1 : mr_LO cl → post 1) (h0 : ¬ mr_LO cl → post 0) : wpX_emptyCluesGood post (w, mr_cov cl, gc, rs, ce, mi, dm, df, ck, cl, mr_nb, gs, wy, ww, su, sn, ch, ca, sa) :=
  Exists.intro 21 (mx_ecg_l h1 h0 20 0 1 rfl (Or.inl ⟨rfl, fun c h => absurd h (Nat.not_lt_zero c)⟩))
/-! joinWays -/
theorem mx_jw116 {post : SX → Prop} {t : Nat → Nat} (hs : ∀ j, j < 21 → sn j = nI (t j)) (hp : ∀ su : Nat → Int32, (∀ j, j < 21 → su j = nI (t j)) → post (w, cv, gc, rs, ce, mi, dm, df, ck, cl, nr, gs, wy, ww, su, sn, ch, ca, sa)) :
    ∀ (d i : Nat) (su : Nat → Int32), i + d = 21 → (∀ j, j < i → su j = nI (t j)) → wX_joinWays_116 post w cv gc rs ce mi dm df ck (d + 1) (nI i) cl nr gs wy ww su sn ch ca sa := by
  intro d
  induction d with
  | zero =>
    intro i su hi H
    have : i = 21 := by omega
    subst this
    exact pk_le 21 21 (fun _ => hp su H) (fun h => absurd h (by omega))
  | succ d ih =>
    intro i su hi H
    have hk : (nI i).toNatClampNeg = i := nI_clamp (by omega)
    have hv : vp_in (nI i) 21 := pk_in i 21 (by omega)
    refine pk_le 21 i (fun h => absurd h (by omega)) (fun _ => And.intro hv (And.intro hv (nm_r (e' := upd su i (sn i)) (by rw [hk]) (nm_r (nI_1 i) (ih (i + 1) _ (by omega) fun j hj => ?_)))))
    by_cases e : j = i
    · subst e; rw [pk_us]; exact hs j (by omega)
    · rw [pk_un e]; exact H j (by omega)
theorem mx_jw32 {post : SX → Prop} {J : Int32 → (Nat → Int32) → (Nat → Int32) → (Nat → Int32) → (Nat → Int32) → (Nat → Int32) → (Nat → Int32) → (Nat → Int32) → (Nat → Int32) → (Nat → Int32) → (Nat → Int32) → Prop}
    {g N : Nat} {b : Int32} {f h : Nat → Nat} (hg : g < 20) (hN : N < 21) (hsu : ∀ j, j < 21 → su j = nI (f j)) (hw : b = 0 → ∀ m, m < 21 → wy (21 * g + m) = nI (h m)) (hww : b ≠ 0 → ∀ m, m < 21 → ww (21 * g + m) = nI (h m))
    (hp : ∀ sn : Nat → Int32, (∀ j, j < 21 → sn j = nI (mr_cp f h (N + 1) 0 j)) → J (nI (N + 1)) cl nr gs wy ww su sn ch ca sa) :
    ∀ (d m : Nat) (sn : Nat → Int32), N + m + d = 21 → (∀ j, j < 21 → sn j = nI (mr_cp f h N m j)) → wX_joinWays_32 post J (nI g) b (nI N) w cv gc rs ce mi dm df ck (d + 1) (nI m) cl nr gs wy ww su sn ch ca sa := by
  intro d
  induction d with
  | zero =>
    intro m sn hi H
    refine pk_le 21 (m + N) (fun _ => nm_r (nI_1 N) (hp sn fun j hj => ?_)) (fun h => absurd h (by omega)) rfl (nI_add m N)
    rw [H j hj, mr_cp_e (fun z => absurd z (by omega))]
  | succ d ih =>
    intro m sn hi H
    have hk : (nI N + nI m).toNatClampNeg = N + m := by rw [nI_add]; exact nI_clamp (by omega)
    have hv : vp_in (nI N + nI m) 21 := pk_in (N + m) 21 (by omega) (nI_add _ _)
    have hk2 : ((21 * nI g) + nI m).toNatClampNeg = 21 * g + m := by rw [mr_21]; exact nI_clamp (by omega)
    have hv2 : vp_in ((21 * nI g) + nI m) 420 := pk_in (21 * g + m) 420 (by omega) (mr_21 _ _)
    have body : wX_joinWays_72 post J (wX_joinWays_32 post J (nI g) b (nI N) w cv gc rs ce mi dm df ck (d + 1)) (nI g) b (nI N) (nI m) (nI (h m)) w cv gc rs ce mi dm df ck cl nr gs wy ww su sn ch ca sa := by
      unfold wX_joinWays_72
      refine And.intro hv (And.intro (pk_in N 21 hN) (And.intro hv (nm_r (e' := upd sn (N + m) (nI (mr_cp f h N (m + 1) (N + m)))) ?_ (nm_r (nI_1 m) (ih (m + 1) _ (by omega) fun j hj => ?_)))))
      · rw [hk, nI_clamp (by omega), H _ (by omega), hsu N hN, pk_mul, nI_add, mr_cp_t]
      · by_cases e : j = N + m
        · rw [e, pk_us]
        · rw [pk_un e, H j hj, mr_cp_s e]
    refine pk_le 21 (m + N) (fun h => absurd h (by omega)) (fun _ => br_c (fun e => And.intro hv2 ?_) (fun e => And.intro hv2 ?_)) rfl (nI_add m N)
    · rw [hk2, hw e m (by omega)]; exact body
    · rw [hk2, hww e m (by omega)]; exact body
theorem mx_jw23 {post : SX → Prop} {g : Nat} {b : Int32} {f h : Nat → Nat} (hg : g < 20) (hsu : ∀ j, j < 21 → su j = nI (f j)) (hw : b = 0 → ∀ m, m < 21 → wy (21 * g + m) = nI (h m)) (hww : b ≠ 0 → ∀ m, m < 21 → ww (21 * g + m) = nI (h m))
    (hp : ∀ su sn : Nat → Int32, (∀ j, j < 21 → su j = nI (mr_cj f h j)) → post (w, cv, gc, rs, ce, mi, dm, df, ck, cl, nr, gs, wy, ww, su, sn, ch, ca, sa)) :
    ∀ (d N : Nat) (sn : Nat → Int32), N + d = 21 → (∀ j, j < 21 → sn j = nI (mr_cp f h N 0 j)) → wX_joinWays_23 post (nI g) b w cv gc rs ce mi dm df ck (d + 1) (nI N) cl nr gs wy ww su sn ch ca sa := by
  intro d
  induction d with
  | zero =>
    intro N sn hi H
    have : N = 21 := by omega
    subst this
    refine pk_le 21 21 (fun _ => Exists.intro 22 (mx_jw116 (t := mr_cj f h) (fun j hj => ?_) (fun su' hs => hp su' sn hs) 21 0 su rfl (fun j h => absurd h (Nat.not_lt_zero j)))) (fun h => absurd h (by omega))
    rw [H j hj, mr_cp_z]; rfl
  | succ d ih =>
    intro N sn hi H
    refine pk_le 21 N (fun h => absurd h (by omega)) (fun _ => Exists.intro (21 - N + 1) (mx_jw32 hg (by omega) hsu hw hww (fun sn' hs => ih (N + 1) sn' (by omega) hs) (21 - N) 0 sn (by omega) H))
theorem mx_jw {post : SX → Prop} {g : Nat} {b : Int32} {f h : Nat → Nat} (hg : g < 20) (hsu : ∀ j, j < 21 → su j = nI (f j)) (hw : b = 0 → ∀ m, m < 21 → wy (21 * g + m) = nI (h m)) (hww : b ≠ 0 → ∀ m, m < 21 → ww (21 * g + m) = nI (h m))
    (hp : ∀ su sn : Nat → Int32, (∀ j, j < 21 → su j = nI (mr_cj f h j)) → post (w, cv, gc, rs, ce, mi, dm, df, ck, cl, nr, gs, wy, ww, su, sn, ch, ca, sa)) :
    wpX_joinWays post (w, cv, gc, rs, ce, mi, dm, df, ck, cl, nr, gs, wy, ww, su, sn, ch, ca, sa) (nI g) b := by
  have lp : ∀ (d i : Nat) (sn : Nat → Int32), i + d = 21 → (∀ j, j < i → sn j = 0) → wX_joinWays_2 post (nI g) b w cv gc rs ce mi dm df ck (d + 1) (nI i) cl nr gs wy ww su sn ch ca sa := by
    intro d
    induction d with
    | zero =>
      intro i sn hi H
      have : i = 21 := by omega
      subst this
      refine pk_le 21 21 (fun _ => Exists.intro 22 (mx_jw23 hg hsu hw hww hp 21 0 sn rfl (fun j hj => ?_))) (fun h => absurd h (by omega))
      rw [H j hj, mr_cp_z]; rfl
    | succ d ih =>
      intro i sn hi H
      have hk : (nI i).toNatClampNeg = i := nI_clamp (by omega)
      refine pk_le 21 i (fun h => absurd h (by omega)) (fun _ => And.intro (pk_in i 21 (by omega)) (nm_r (e' := upd sn i 0) (by rw [hk]) (nm_r (nI_1 i) (ih (i + 1) _ (by omega) fun j hj => ?_))))
      by_cases e : j = i
      · subst e; exact pk_us
      · rw [pk_un e]; exact H j (by omega)
  exact Exists.intro 22 (lp 21 0 sn rfl (fun j h => absurd h (Nat.not_lt_zero j)))
/-! joinRest -/
def mr_hr (r fx k : Nat) : Nat := if k < fx then 0 else mr_C r (k - fx)
def mr_chk (ch : Nat → Int32) : Prop := ∀ n k, n ≤ 20 → k ≤ n → ch (21 * n + k) = nI (mr_C n k)
theorem mx_jr116 {post : SX → Prop} {t : Nat → Nat} (hs : ∀ j, j < 21 → sn j = nI (t j)) (hp : ∀ su : Nat → Int32, (∀ j, j < 21 → su j = nI (t j)) → post (w, cv, gc, rs, ce, mi, dm, df, ck, cl, nr, gs, wy, ww, su, sn, ch, ca, sa)) :
    ∀ (d i : Nat) (su : Nat → Int32), i + d = 21 → (∀ j, j < i → su j = nI (t j)) → wX_joinRest_116 post w cv gc rs ce mi dm df ck (d + 1) (nI i) cl nr gs wy ww su sn ch ca sa := by
  intro d
  induction d with
  | zero =>
    intro i su hi H
    have : i = 21 := by omega
    subst this
    exact pk_le 21 21 (fun _ => hp su H) (fun h => absurd h (by omega))
  | succ d ih =>
    intro i su hi H
    have hk : (nI i).toNatClampNeg = i := nI_clamp (by omega)
    have hv : vp_in (nI i) 21 := pk_in i 21 (by omega)
    refine pk_le 21 i (fun h => absurd h (by omega)) (fun _ => And.intro hv (And.intro hv (nm_r (e' := upd su i (sn i)) (by rw [hk]) (nm_r (nI_1 i) (ih (i + 1) _ (by omega) fun j hj => ?_)))))
    by_cases e : j = i
    · subst e; rw [pk_us]; exact hs j (by omega)
    · rw [pk_un e]; exact H j (by omega)
theorem mx_jr43 {post : SX → Prop} {J : Int32 → (Nat → Int32) → (Nat → Int32) → (Nat → Int32) → (Nat → Int32) → (Nat → Int32) → (Nat → Int32) → (Nat → Int32) → (Nat → Int32) → (Nat → Int32) → (Nat → Int32) → Prop}
    {N r fx : Nat} {f : Nat → Nat} (hN : N < 21) (hr : r ≤ 20) (hfx : fx ≤ 1) (hch : mr_chk ch) (hsu : ∀ j, j < 21 → su j = nI (f j))
    (hp : ∀ sn : Nat → Int32, (∀ j, j < 21 → sn j = nI (mr_cp f (mr_hr r fx) (N + 1) 0 j)) → J (nI (N + 1)) cl nr gs wy ww su sn ch ca sa) :
    ∀ (d m : Nat) (sn : Nat → Int32), m + d = 21 → m ≤ r + 1 → (∀ j, j < 21 → sn j = nI (mr_cp f (mr_hr r fx) N (m + fx) j)) → wX_joinRest_43 post J (nI fx) (nI r) (nI N) w cv gc rs ce mi dm df ck (d + 1) (nI m) cl nr gs wy ww su sn ch ca sa := by
  have fin : ∀ (m : Nat) (sn : Nat → Int32), (r < m ∨ 21 ≤ m + N + fx) → (∀ j, j < 21 → sn j = nI (mr_cp f (mr_hr r fx) N (m + fx) j)) → ∀ j, j < 21 → sn j = nI (mr_cp f (mr_hr r fx) (N + 1) 0 j) := by
    intro m sn h H j hj
    rw [H j hj, mr_cp_e (fun z => ?_)]
    unfold mr_hr
    rw [if_neg (by omega)]
    exact mr_C_0 _ _ (by omega)
  intro d
  induction d with
  | zero =>
    intro m sn hi hm H
    exact pk_lt r m (fun h => nm_r (nI_1 N) (hp sn (fin m sn (Or.inl h) H))) (fun h => absurd h (by omega))
  | succ d ih =>
    intro m sn hi hm H
    refine pk_lt r m (fun h => nm_r (nI_1 N) (hp sn (fin m sn (Or.inl h) H))) (fun h1 => ?_)
    have e1 : (nI m + nI N) + nI fx = nI (m + N + fx) := by rw [nI_add, nI_add]
    have e2 : (nI N + nI m) + nI fx = nI (N + (m + fx)) := by rw [nI_add, nI_add, Nat.add_assoc]
    refine pk_le 21 (m + N + fx) (fun h => nm_r (nI_1 N) (hp sn (fin m sn (Or.inr h) H))) (fun h2 => ?_) rfl e1
    have hv : vp_in ((nI N + nI m) + nI fx) 21 := pk_in (N + (m + fx)) 21 (by omega) e2
    have hk : ((nI N + nI m) + nI fx).toNatClampNeg = N + (m + fx) := by rw [e2]; exact nI_clamp (by omega)
    have hk2 : ((21 * nI r) + nI m).toNatClampNeg = 21 * r + m := by rw [mr_21]; exact nI_clamp (by omega)
    refine And.intro hv (And.intro (pk_in N 21 hN) (And.intro (pk_in (21 * r + m) 441 (by omega) (mr_21 _ _)) (And.intro hv (nm_r (e' := upd sn (N + (m + fx)) (nI (mr_cp f (mr_hr r fx) N (m + fx + 1) (N + (m + fx))))) ?_ (nm_r (nI_1 m) (ih (m + 1) _ (by omega) (by omega) fun j hj => ?_))))))
    · rw [hk, hk2, nI_clamp (by omega), H _ (by omega), hsu N hN, hch r m hr h1, pk_mul, nI_add, mr_cp_t, show mr_hr r fx (m + fx) = mr_C r m by unfold mr_hr; rw [if_neg (by omega), Nat.add_sub_cancel]]
    · rw [show m + 1 + fx = m + fx + 1 by omega]
      by_cases e : j = N + (m + fx)
      · rw [e, pk_us]
      · rw [pk_un e, H j hj, mr_cp_s e]
theorem mx_jr34 {post : SX → Prop} {r fx : Nat} {f : Nat → Nat} (hr : r ≤ 20) (hfx : fx ≤ 1) (hch : mr_chk ch) (hsu : ∀ j, j < 21 → su j = nI (f j))
    (hp : ∀ su sn : Nat → Int32, (∀ j, j < 21 → su j = nI (mr_cj f (mr_hr r fx) j)) → post (w, cv, gc, rs, ce, mi, dm, df, ck, cl, nr, gs, wy, ww, su, sn, ch, ca, sa)) :
    ∀ (d N : Nat) (sn : Nat → Int32), N + d = 21 → (∀ j, j < 21 → sn j = nI (mr_cp f (mr_hr r fx) N 0 j)) → wX_joinRest_34 post (nI fx) (nI r) w cv gc rs ce mi dm df ck (d + 1) (nI N) cl nr gs wy ww su sn ch ca sa := by
  intro d
  induction d with
  | zero =>
    intro N sn hi H
    have : N = 21 := by omega
    subst this
    refine pk_le 21 21 (fun _ => Exists.intro 22 (mx_jr116 (t := mr_cj f (mr_hr r fx)) (fun j hj => ?_) (fun su' hs => hp su' sn hs) 21 0 su rfl (fun j h => absurd h (Nat.not_lt_zero j)))) (fun h => absurd h (by omega))
    rw [H j hj, mr_cp_z]; rfl
  | succ d ih =>
    intro N sn hi H
    refine pk_le 21 N (fun h => absurd h (by omega)) (fun _ => Exists.intro 22 (mx_jr43 (by omega) hr hfx hch hsu (fun sn' hs => ih (N + 1) sn' (by omega) hs) 21 0 sn (by omega) (by omega) fun j hj => ?_))
    rw [H j hj]
    unfold mr_cp
    by_cases q : N ≤ j ∧ j < N + (0 + fx)
    · rw [mr_b_f (p := N ≤ j ∧ j < N + 0) (by omega), show mr_hr r fx (j - N) = 0 from if_pos (by omega), Nat.mul_zero, Nat.mul_zero, Nat.mul_zero]
    · rw [mr_b_f (p := N ≤ j ∧ j < N + 0) (by omega), mr_b_f q]
theorem mx_jr {post : SX → Prop} {r fx : Nat} {f : Nat → Nat} (hrs : mr_W rs) (hr : mr_pc rs = r + fx) (hfx : fx ≤ 1) (hch : mr_chk ch) (hsu : ∀ j, j < 21 → su j = nI (f j))
    (hp : ∀ su sn : Nat → Int32, (∀ j, j < 21 → su j = nI (mr_cj f (mr_hr r fx) j)) → post (w, cv, gc, rs, ce, mi, dm, df, ck, cl, nr, gs, wy, ww, su, sn, ch, ca, sa)) :
    wpX_joinRest post (w, cv, gc, rs, ce, mi, dm, df, ck, cl, nr, gs, wy, ww, su, sn, ch, ca, sa) (nI fx) := by
  have hl := mr_pc_le rs
  have lp : ∀ (d i : Nat) (sn : Nat → Int32), i + d = 21 → (∀ j, j < i → sn j = 0) → wX_joinRest_13 post (nI fx) (nI r) w cv gc rs ce mi dm df ck (d + 1) (nI i) cl nr gs wy ww su sn ch ca sa := by
    intro d
    induction d with
    | zero =>
      intro i sn hi H
      have : i = 21 := by omega
      subst this
      refine pk_le 21 21 (fun _ => Exists.intro 22 (mx_jr34 (by omega) hfx hch hsu hp 21 0 sn rfl (fun j hj => ?_))) (fun h => absurd h (by omega))
      rw [H j hj, mr_cp_z]; rfl
    | succ d ih =>
      intro i sn hi H
      have hk : (nI i).toNatClampNeg = i := nI_clamp (by omega)
      refine pk_le 21 i (fun h => absurd h (by omega)) (fun _ => And.intro (pk_in i 21 (by omega)) (nm_r (e' := upd sn i 0) (by rw [hk]) (nm_r (nI_1 i) (ih (i + 1) _ (by omega) fun j hj => ?_))))
      by_cases e : j = i
      · subst e; exact pk_us
      · rw [pk_un e]; exact H j (by omega)
  unfold wpX_joinRest
  refine mx_bits hrs (nm_r (e' := nI r) ?_ (Exists.intro 22 (lp 21 0 sn rfl (fun j h => absurd h (Nat.not_lt_zero j)))))
  rw [hr, pk_sub (by omega), Nat.add_sub_cancel]
end MX
end
section
/-! the component: all groups together -/
def mr_un (gs : Nat → Int32) : Nat → Int32
  | 0 => 0
  | i + 1 => mr_un gs i ||| gs i
theorem mr_un_bt {gs : Nat → Int32} {j : Nat} : ∀ i, bt (mr_un gs i) j = true ↔ ∃ g, g < i ∧ bt (gs g) j = true := by
  intro i
  induction i with
  | zero =>
    rw [show mr_un gs 0 = 0 from rfl, b_0]
    exact ⟨fun h => absurd h (by decide), fun ⟨g, h, _⟩ => absurd h (Nat.not_lt_zero g)⟩
  | succ i ih =>
    show bt (mr_un gs i ||| gs i) j = true ↔ _
    rw [b_or, Bool.or_eq_true, ih]
    constructor
    · rintro (⟨g, h1, h2⟩ | h)
      · exact ⟨g, by omega, h2⟩
      · exact ⟨i, by omega, h⟩
    · rintro ⟨g, h1, h2⟩
      by_cases e : g = i
      · subst e; exact Or.inr h2
      · exact Or.inl ⟨g, by omega, h2⟩
theorem mr_un_Cl {cl gs : Nat → Int32} {i : Nat} (h : ∀ g, g < i → mr_Cl cl (gs g)) : mr_Cl cl (mr_un gs i) := by
  intro c hc hs j hj hm m hm2
  obtain ⟨g, g1, g2⟩ := (mr_un_bt i).mp hm
  exact (mr_un_bt i).mpr ⟨g, g1, h g g1 c hc hs j hj g2 m hm2⟩
theorem mr_un_W {gs : Nat → Int32} : ∀ i, (∀ g, g < i → mr_W (gs g)) → mr_W (mr_un gs i) := by
  intro i
  induction i with
  | zero => intro _; exact mr_W0
  | succ i ih => intro h; exact mr_W_or (ih fun g hg => h g (by omega)) (h i (by omega))
theorem mr_un_all {cl gs : Nat → Int32} {k : Nat} (H : mr_GI cl 0 k gs) : mr_un gs k = mr_edge cl := by
  obtain ⟨_, _, _, g1, _, g3, _, _⟩ := H
  refine mr_W_ext (mr_un_W k fun g hg => (g1 g hg).1) (mr_edge_W cl) fun i _ => ?_
  rw [Bool.eq_iff_iff, mr_un_bt]
  constructor
  · rintro ⟨g, h1, h2⟩; exact ((g1 g h1).2.2 i h2).1
  · intro h
    rcases g3 i h with q | q
    · rw [b_0] at q; exact absurd q (by decide)
    · exact q
/-- the question's cell is mined, if it is in T -/
def mr_Qt (q T S : Int32) : Prop := ∀ c : Nat, c < 20 → q = nI c → bt T c = true → bt S c = true
theorem mr_cj_mul (E : Nat) (f h : Nat → Nat) (n : Nat) : mr_cj (fun a => E * f a) h n = E * mr_cj f h n := by
  unfold mr_cj
  rw [← mr_sm_mul]
  refine mr_sm_congr 21 fun a _ => ?_
  rw [Nat.mul_assoc E, ← Nat.mul_assoc (mr_b _) E, Nat.mul_comm (mr_b _) E, Nat.mul_assoc]
theorem mr_SS_emp (u : Int32 → Nat) : ∀ d M, mr_SS 0 u d M = u M := by
  intro d
  induction d with
  | zero => intro M; rfl
  | succ d ih => intro M; rw [mr_SS_f (b_0 _), ih]
theorem mr_PF_0 {cl : Nat → Int32} {Q : Int32 → Prop} (h : Q 0) (n : Nat) : mr_PF cl 0 Q n = mr_b (n = 0) := by
  unfold mr_PF
  rw [mr_SS_emp]
  refine mr_b_iff ⟨fun z => ?_, fun z => ⟨fun c _ _ ⟨i, _, e⟩ => ?_, h, ?_⟩⟩
  · have := z.2.2; rw [mr_pc_0] at this; exact this.symm
  · rw [b_0] at e; exact absurd e (by decide)
  · rw [mr_pc_0]; exact z.symm
theorem mr_un_step {cl gs : Nat → Int32} {k i : Nat} {q : Int32} {Q2 : Int32 → Prop} {E : Nat} (H : mr_GI cl 0 k gs) (hi : i < k)
    (hQ : ((∃ c : Nat, c < 20 ∧ q = nI c ∧ bt (gs i) c = true) ∧ Q2 = mr_QQ q) ∨ (¬ (∃ c : Nat, c < 20 ∧ q = nI c ∧ bt (gs i) c = true) ∧ Q2 = fun _ => True)) (n : Nat) :
    mr_cj (fun a => E * mr_PF cl (mr_un gs i) (mr_Qt q (mr_un gs i)) a) (mr_PF cl (gs i) Q2) n = E * mr_PF cl (mr_un gs (i + 1)) (mr_Qt q (mr_un gs (i + 1))) n := by
  obtain ⟨_, _, _, g1, g2, _, _, _⟩ := H
  rw [mr_cj_mul]
  congr 1
  have vT : ∀ j, bt (mr_un gs i) j = true → bt (mr_cov cl) j = true := fun j h => by
    obtain ⟨g, h1, h2⟩ := (mr_un_bt i).mp h
    exact mr_edge_cov ((g1 g (by omega)).2.2 j h2).1
  have vG : ∀ j, bt (gs i) j = true → bt (mr_cov cl) j = true := fun j h => mr_edge_cov ((g1 i hi).2.2 j h).1
  have dj : ∀ j, bt (mr_un gs i) j = true → bt (gs i) j = true → False := fun j h h2 => by
    obtain ⟨g, h3, h4⟩ := (mr_un_bt i).mp h
    exact g2 g i h3 hi j h4 h2
  refine (mr_PF_prod (T := mr_un gs i) (G := gs i) (Q := mr_Qt q (mr_un gs (i + 1))) (Q1 := mr_Qt q (mr_un gs i)) (Q2 := Q2) (mr_un_Cl fun g hg => (g1 g (by omega)).2.1) (g1 i hi).2.1 vT vG dj ?_ n).symm
  intro S S' hS hS'
  have eu : ∀ c, bt (mr_un gs (i + 1)) c = (bt (mr_un gs i) c || bt (gs i) c) := fun c => b_or _ _ _
  rcases hQ with ⟨⟨c, c1, c2, c3⟩, rfl⟩ | ⟨hn, rfl⟩
  · have cT : bt (mr_un gs i) c = false := Bool.eq_false_iff.mpr fun z => dj c z c3
    have cS : bt S c = false := Bool.eq_false_iff.mpr fun z => by rw [hS c z] at cT; exact absurd cT (by decide)
    have un : ∀ c' : Nat, c' < 20 → q = nI c' → c' = c := fun c' h1 h2 => (nI_eq (by omega) (by omega)).mp (h2.symm.trans c2)
    constructor
    · intro h
      have h1 := h c c1 c2 (by rw [eu, c3, Bool.or_true])
      rw [b_or, cS, Bool.false_or] at h1
      refine ⟨fun c' a b d => ?_, c, c1, c2, h1⟩
      rw [un c' a b, cT] at d; exact absurd d (by decide)
    · rintro ⟨_, c', d1, d2, d3⟩ c'' e1 e2 _
      rw [un c'' e1 e2, b_or, ← un c' d1 d2, d3, Bool.or_true]
  · constructor
    · intro h
      refine ⟨fun c a b d => ?_, trivial⟩
      have h1 := h c a b (by rw [eu, d]; rfl)
      rw [b_or, Bool.or_eq_true] at h1
      rcases h1 with z | z
      · exact z
      · exact absurd ⟨c, a, b, hS' c z⟩ hn
    · rintro ⟨h, _⟩ c a b d
      rw [eu, Bool.or_eq_true] at d
      rcases d with z | z
      · rw [b_or, h c a b z]; rfl
      · exact absurd ⟨c, a, b, z⟩ hn
noncomputable def mr_F (cl : Nat → Int32) (q : Int32) (n : Nat) : Nat := mr_b (mr_LO cl) * mr_PF cl (mr_edge cl) (mr_Qt q (mr_edge cl)) n
noncomputable def mr_fx (cl : Nat → Int32) (q : Int32) : Nat := mr_b (mr_QQ q (mr_rest cl))
noncomputable def mr_sums (cl : Nat → Int32) (q : Int32) (n : Nat) : Nat := mr_cj (mr_F cl q) (mr_hr (mr_pc (mr_rest cl) - mr_fx cl q) (mr_fx cl q)) n
noncomputable def mr_N (cl : Nat → Int32) (w q : Int32) : Nat := mr_sm (fun n => mr_b (w = -1 ∨ w = nI n) * mr_sums cl q n) 21
section MX
variable {w cv gc rs ce mi dm df ck : Int32} {cl nr gs wy ww su sn ch ca sa : Nat → Int32}
theorem mx_ca117 {post : SX → Prop} {q : Int32} {fx : Nat} (hch : mr_chk ch) (hf : fx = mr_fx cl q) (hsu : ∀ j, j < 21 → su j = nI (mr_F cl q j))
    (hp : ∀ (gc ce mi : Int32) (gs wy ww su sn ca sa : Nat → Int32), (∀ j, j < 21 → su j = nI (mr_sums cl q j)) → post (w, mr_cov cl, gc, mr_rest cl, ce, mi, dm, df, ck, cl, mr_nb, gs, wy, ww, su, sn, ch, ca, sa)) :
    wX_countAll_117 post (nI fx) w (mr_cov cl) gc (mr_rest cl) ce mi dm df ck cl mr_nb gs wy ww su sn ch ca sa := by
  have h1 : mr_fx cl q ≤ 1 := mr_b_le _
  have h2 : mr_fx cl q ≤ mr_pc (mr_rest cl) := by
    unfold mr_fx
    by_cases e : mr_QQ q (mr_rest cl)
    · obtain ⟨c, c1, _, c3⟩ := e
      rw [mr_b_t ⟨c, c1, by assumption, c3⟩]
      have := mr_pc_sub (x := mr_bit c) (y := mr_rest cl) fun i hi z => by
        rw [mr_bit_iff (by omega) (by omega)] at z
        rw [z]; exact c3
      rw [mr_pc_bit c1] at this
      exact this
    · rw [mr_b_f e]; exact Nat.zero_le _
  subst hf
  unfold wX_countAll_117
  exact mx_jr (mr_rest_W cl) (by omega : mr_pc (mr_rest cl) = (mr_pc (mr_rest cl) - mr_fx cl q) + mr_fx cl q) h1 hch hsu fun su' sn' hs => hp _ _ _ _ _ _ _ _ _ _ hs
theorem mx_ca45 {post : SX → Prop} {q : Int32} {k : Nat} (hok : mr_ok cl) (hq : mr_qok q) (hch : mr_chk ch) (hk : k ≤ 20) (H : mr_GI cl 0 k gs)
    (hp : ∀ (gc ce mi : Int32) (gs wy ww su sn ca sa : Nat → Int32), (∀ j, j < 21 → su j = nI (mr_sums cl q j)) → post (w, mr_cov cl, gc, mr_rest cl, ce, mi, dm, df, ck, cl, mr_nb, gs, wy, ww, su, sn, ch, ca, sa)) :
    ∀ (d i : Nat) (ce mi : Int32) (wy ww su sn ca sa : Nat → Int32), i + d = k → (∀ j, j < 21 → su j = nI (mr_b (mr_LO cl) * mr_PF cl (mr_un gs i) (mr_Qt q (mr_un gs i)) j)) →
    wX_countAll_45 post q (d + 1) (nI i) w (mr_cov cl) (nI k) (mr_rest cl) ce mi dm df ck cl mr_nb gs wy ww su sn ch ca sa := by
  intro d
  induction d with
  | zero =>
    intro i ce mi wy ww su sn ca sa hi hs
    have : i = k := by omega
    subst this
    have hs2 : ∀ j, j < 21 → su j = nI (mr_F cl q j) := fun j hj => by
      have := hs j hj
      rw [mr_un_all H] at this
      exact this
    have f0 : ¬ mr_QQ q (mr_rest cl) → 0 = mr_fx cl q := fun z => (mr_b_f z).symm
    have f1 : mr_QQ q (mr_rest cl) → 1 = mr_fx cl q := fun z => (mr_b_t z).symm
    refine pk_le i i (fun _ => ?_) (fun h => absurd h (by omega))
    rcases hq with e | ⟨c, hc, e⟩
    · refine br_t e ?_
      unfold wX_countAll_116
      refine mx_ca117 (fx := 0) hch (f0 fun z => ?_) hs2 hp
      obtain ⟨c, c1, c2, _⟩ := z
      exact mr_n1 (by omega) (c2.symm.trans e)
    · subst e
      refine br_f (mr_n1 (by omega)) (mx_has (by omega) (fun m => br_f (by decide) ?_) (fun m => br_t rfl ?_))
      · exact mx_ca117 (fx := 1) hch (f1 ⟨c, hc, rfl, m⟩) hs2 hp
      · unfold wX_countAll_116
        refine mx_ca117 (fx := 0) hch (f0 fun z => ?_) hs2 hp
        obtain ⟨c', c1, c2, c3⟩ := z
        rw [nI_eq (by omega) (by omega)] at c2
        rw [← c2, m] at c3
        exact absurd c3 (by decide)
  | succ d ih =>
    intro i ce mi wy ww su sn ca sa hi hs
    have hcl : (nI i).toNatClampNeg = i := nI_clamp (by omega)
    have G := H.2.2.2.1 i (by omega)
    refine pk_le k i (fun h => absurd h (by omega)) (fun _ => ?_)
    refine mx_fill hok (by omega) hq G.1 (fun j z => mr_edge_cov (G.2.2 j z).1) fun ce mi wy ww ca sa hwy hww => ?_
    have nx0 : ¬ (∃ c : Nat, c < 20 ∧ q = nI c ∧ bt (gs i) c = true) → wX_countAll_84 post (wX_countAll_45 post q (d + 1)) q (nI i) (nI i) w (mr_cov cl) (nI k) (mr_rest cl) ce mi dm df ck cl mr_nb gs wy ww su sn ch ca sa := by
      intro hn
      unfold wX_countAll_84 wX_countAll_85
      refine mx_jw (h := mr_PF cl (gs i) (fun _ => True)) (by omega) hs (fun _ => hwy) (fun z => absurd rfl z) fun su' sn' hs' => nm_r (nI_1 i) (ih (i + 1) _ _ _ _ _ _ _ _ (by omega) fun j hj => ?_)
      rw [hs' j hj, mr_un_step H (by omega) (Or.inr ⟨hn, rfl⟩)]
    rcases hq with e | ⟨c, hc, e⟩
    · refine br_t e (nx0 fun z => ?_)
      obtain ⟨c, c1, c2, _⟩ := z
      exact mr_n1 (by omega) (c2.symm.trans e)
    · subst e
      refine br_f (mr_n1 (by omega)) (And.intro (pk_in i 20 (by omega)) (mx_has (by omega) (fun m => br_f (by decide) ?_) (fun m => br_t rfl (nx0 fun z => ?_))))
      · rw [hcl] at m
        unfold wX_countAll_85
        refine mx_jw (h := mr_PF cl (gs i) (mr_QQ (nI c))) (by omega) hs (fun z => absurd z (by decide)) (fun _ => hww) fun su' sn' hs' => nm_r (nI_1 i) (ih (i + 1) _ _ _ _ _ _ _ _ (by omega) fun j hj => ?_)
        rw [hs' j hj, mr_un_step H (by omega) (Or.inl ⟨⟨c, hc, rfl, m⟩, rfl⟩)]
      · rw [hcl] at m
        obtain ⟨c', c1, c2, c3⟩ := z
        rw [nI_eq (by omega) (by omega)] at c2
        rw [← c2, m] at c3
        exact absurd c3 (by decide)
theorem mx_ca6 {post : SX → Prop} {q : Int32} {k : Nat} (hok : mr_ok cl) (hq : mr_qok q) (hch : mr_chk ch) (hk : k ≤ 20) (H : mr_GI cl 0 k gs)
    (hp : ∀ (gc ce mi : Int32) (gs wy ww su sn ca sa : Nat → Int32), (∀ j, j < 21 → su j = nI (mr_sums cl q j)) → post (w, mr_cov cl, gc, mr_rest cl, ce, mi, dm, df, ck, cl, mr_nb, gs, wy, ww, su, sn, ch, ca, sa)) :
    ∀ (d i : Nat) (su : Nat → Int32), i + d = 21 → (∀ j, j < i → su j = 0) → wX_countAll_6 post q w (mr_cov cl) (nI k) (mr_rest cl) ce mi dm df ck (d + 1) (nI i) cl mr_nb gs wy ww su sn ch ca sa := by
  intro d
  induction d with
  | zero =>
    intro i su hi hs
    have : i = 21 := by omega
    subst this
    have h0 : mr_Qt q (mr_un gs 0) 0 := fun c _ _ z => z
    refine pk_le 21 21 (fun _ => mx_ecg (fun e => br_f (by decide) (nm_e (Exists.intro (k + 1) (mx_ca45 hok hq hch hk H hp k 0 _ _ _ _ _ _ _ _ (by omega) fun j hj => ?_)))) (fun e => br_t rfl (nm_e (Exists.intro (k + 1) (mx_ca45 hok hq hch hk H hp k 0 _ _ _ _ _ _ _ _ (by omega) fun j hj => ?_))))) (fun h => absurd h (by omega))
    · rw [show mr_un gs 0 = 0 from rfl] at h0 ⊢
      rw [mr_PF_0 h0, mr_b_t e, Nat.one_mul]
      by_cases z : j = 0
      · rw [z, pk_us, mr_b_t rfl]; rfl
      · rw [pk_un z, hs j hj, mr_b_f z]; rfl
    · rw [mr_b_f e, Nat.zero_mul]
      by_cases z : j = 0
      · rw [z, pk_us]; rfl
      · rw [pk_un z, hs j hj]; rfl
  | succ d ih =>
    intro i su hi hs
    have hcl : (nI i).toNatClampNeg = i := nI_clamp (by omega)
    refine pk_le 21 i (fun h => absurd h (by omega)) (fun _ => And.intro (pk_in i 21 (by omega)) (nm_r (e' := upd su i 0) (by rw [hcl]) (nm_r (nI_1 i) (ih (i + 1) _ (by omega) fun j hj => ?_))))
    by_cases e : j = i
    · subst e; exact pk_us
    · rw [pk_un e]; exact hs j (by omega)
theorem mx_count {post : SX → Prop} {q : Int32} (hok : mr_ok cl) (hq : mr_qok q) (hch : mr_chk ch)
    (hp : ∀ (gc rs ce mi : Int32) (gs wy ww su sn ca sa : Nat → Int32), (∀ j, j < 21 → su j = nI (mr_sums cl q j)) → post (w, mr_cov cl, gc, rs, ce, mi, dm, df, ck, cl, mr_nb, gs, wy, ww, su, sn, ch, ca, sa)) :
    wpX_countAll post (w, mr_cov cl, gc, rs, ce, mi, dm, df, ck, cl, mr_nb, gs, wy, ww, su, sn, ch, ca, sa) q := by
  unfold wpX_countAll
  exact mx_findGroups fun k gs' hk H => Exists.intro 22 (mx_ca6 hok hq hch hk H (fun gc ce mi gs wy ww su sn ca sa hs => hp gc _ ce mi gs wy ww su sn ca sa hs) 21 0 su rfl (fun j h => absurd h (Nat.not_lt_zero j)))
theorem mx_want_l {post : Int32 → Prop} {t : Nat → Nat} (hs : ∀ j, j < 21 → su j = nI (t j)) (hp : post (nI (mr_sm (fun n => mr_b (w = -1 ∨ w = nI n) * t n) 21))) : ∀ (d i : Nat), i + d = 21 →
    wX_countWanted_4 post w cv gc rs ce mi dm df ck cl nr gs wy ww su sn ch ca sa (d + 1) (nI (mr_sm (fun n => mr_b (w = -1 ∨ w = nI n) * t n) i)) (nI i) := by
  intro d
  induction d with
  | zero =>
    intro i hi
    have : i = 21 := by omega
    subst this
    exact pk_le 21 21 (fun _ => hp) (fun h => absurd h (by omega))
  | succ d ih =>
    intro i hi
    have h1 := ih (i + 1) (by omega)
    have hcl : (nI i).toNatClampNeg = i := nI_clamp (by omega)
    have yes : (w = -1 ∨ w = nI i) → wX_countWanted_26 post (wX_countWanted_4 post w cv gc rs ce mi dm df ck cl nr gs wy ww su sn ch ca sa (d + 1)) (nI (mr_sm (fun n => mr_b (w = -1 ∨ w = nI n) * t n) i)) (nI i) w cv gc rs ce mi dm df ck cl nr gs wy ww su sn ch ca sa := by
      intro z
      have e : mr_sm (fun n => mr_b (w = -1 ∨ w = nI n) * t n) (i + 1) = mr_sm (fun n => mr_b (w = -1 ∨ w = nI n) * t n) i + t i := by
        show _ + mr_b (w = -1 ∨ w = nI i) * t i = _
        rw [mr_b_t z, Nat.one_mul]
      rw [e] at h1
      unfold wX_countWanted_26
      exact And.intro (pk_in i 21 (by omega)) (nm_r (by rw [hcl, hs i (by omega), nI_add]) (nm_r (nI_1 i) h1))
    refine pk_le 21 i (fun h => absurd h (by omega)) (fun _ => br_c (fun z => yes (Or.inl z)) (fun z => br_c (fun z2 => yes (Or.inr z2)) (fun z2 => ?_)))
    have e : mr_sm (fun n => mr_b (w = -1 ∨ w = nI n) * t n) (i + 1) = mr_sm (fun n => mr_b (w = -1 ∨ w = nI n) * t n) i := by
      show _ + mr_b (w = -1 ∨ w = nI i) * t i = _
      rw [mr_b_f (fun y => y.elim z z2), Nat.zero_mul, Nat.add_zero]
    rw [e] at h1
    exact nm_r (nI_1 i) h1
theorem mx_want {post : Int32 → Prop} {t : Nat → Nat} (hs : ∀ j, j < 21 → su j = nI (t j)) (hp : post (nI (mr_sm (fun n => mr_b (w = -1 ∨ w = nI n) * t n) 21))) :
    wpX_countWanted post (w, cv, gc, rs, ce, mi, dm, df, ck, cl, nr, gs, wy, ww, su, sn, ch, ca, sa) :=
  Exists.intro 22 (mx_want_l hs hp 21 0 rfl)
theorem mx_layouts {post : Int32 → SX → Prop} (hok : mr_ok cl) (hch : mr_chk ch)
    (hp : ∀ (gc rs ce mi : Int32) (gs wy ww su sn ca sa : Nat → Int32), post (nI (mr_N cl w (-1))) (w, mr_cov cl, gc, rs, ce, mi, dm, df, ck, cl, mr_nb, gs, wy, ww, su, sn, ch, ca, sa)) :
    wpX_layouts post (w, mr_cov cl, gc, rs, ce, mi, dm, df, ck, cl, mr_nb, gs, wy, ww, su, sn, ch, ca, sa) := by
  unfold wpX_layouts
  exact mx_count hok (Or.inl rfl) hch fun gc rs ce mi gs wy ww su sn ca sa hs => mx_want hs (hp gc rs ce mi gs wy ww su sn ca sa)
theorem mx_minedIn {post : Int32 → SX → Prop} (hok : mr_ok cl) (hch : mr_chk ch) {c : Nat} (hc : c < 20) (h0 : bt (mr_cov cl) c = false → post 0 (w, mr_cov cl, gc, rs, ce, mi, dm, df, ck, cl, mr_nb, gs, wy, ww, su, sn, ch, ca, sa))
    (hp : bt (mr_cov cl) c = true → ∀ (gc rs ce mi : Int32) (gs wy ww su sn ca sa : Nat → Int32), post (nI (mr_N cl w (nI c))) (w, mr_cov cl, gc, rs, ce, mi, dm, df, ck, cl, mr_nb, gs, wy, ww, su, sn, ch, ca, sa)) :
    wpX_minedIn post (w, mr_cov cl, gc, rs, ce, mi, dm, df, ck, cl, mr_nb, gs, wy, ww, su, sn, ch, ca, sa) (nI c) := by
  unfold wpX_minedIn
  refine mx_has (by omega) (fun e => br_f (by decide) ?_) (fun e => br_t rfl (h0 e))
  exact mx_count hok (Or.inr ⟨c, hc, rfl⟩) hch fun gc rs ce mi gs wy ww su sn ca sa hs => mx_want hs (hp e gc rs ce mi gs wy ww su sn ca sa)
end MX
end
section
/-! the reference: the search over the edge -/
section MY
variable {tt ec cc kn sm sf : Int32} {cl nr ed fo fw : Nat → Int32}
theorem my_cb35 {post : Int32 → Prop} (hok : mr_ok cl) {M op : Int32} (h1 : mr_cb cl M op → post 1) (h0 : ¬ mr_cb cl M op → post 0) : ∀ (d i : Nat), i + d = 20 → (∀ c, c < i → cl c ≠ -1 → mr_ckc cl M op c) →
    wY_canBe_35 post M op tt ec cc kn sm sf cl mr_nb ed fo fw (d + 1) (nI i) := by
  intro d
  induction d with
  | zero =>
    intro i hi H
    have : i = 20 := by omega
    subst this
    exact pk_le 20 20 (fun _ => h1 H) (fun h => absurd h (by omega))
  | succ d ih =>
    intro i hi H
    have hk : (nI i).toNatClampNeg = i := nI_clamp (by omega)
    have hv : vp_in (nI i) 20 := pk_in i 20 (by omega)
    have yes : (cl i ≠ -1 → mr_ckc cl M op i) → wY_canBe_105 post (wY_canBe_35 post M op tt ec cc kn sm sf cl mr_nb ed fo fw (d + 1)) M op (nI i) tt ec cc kn sm sf cl mr_nb ed fo fw := by
      intro z
      unfold wY_canBe_105 wY_canBe_110
      refine br_f (by decide) (nm_r (nI_1 i) (ih (i + 1) (by omega) fun c hc => ?_))
      by_cases e : c = i
      · subst e; exact z
      · exact H c (by omega)
    have no : ¬ mr_ckc cl M op i → cl i ≠ -1 → wY_canBe_109 post (wY_canBe_35 post M op tt ec cc kn sm sf cl mr_nb ed fo fw (d + 1)) M op (nI i) tt ec cc kn sm sf cl mr_nb ed fo fw := by
      intro z y
      unfold wY_canBe_109 wY_canBe_110
      exact br_t rfl (h0 fun q => z (q i (by omega) y))
    have p1 := mr_pc_le (mr_nb i &&& M)
    have p2 := mr_pc_le (mr_nb i &&& op)
    refine pk_le 20 i (fun h => absurd h (by omega)) (fun _ => And.intro hv ?_)
    rw [hk]
    refine my_bits (mr_W_and (mr_nb_W i)) (And.intro hv (br_c (fun e => ?_) (fun e => And.intro hv ?_)))
    · rw [mr_lt0 hok (by omega)] at e
      exact yes fun z => absurd e z
    · rw [mr_lt0 hok (by omega)] at e
      obtain ⟨e2, hl⟩ := mr_kl_e hok (by omega) e
      rw [e2]
      refine pk_lt (mr_kl cl i) (mr_pc (mr_nb i &&& M)) (fun q => no (fun z => ?_) e) (fun q => And.intro hv (my_bits (mr_W_and (mr_nb_W i)) (And.intro hv ?_)))
      · have := z.1; omega
      · refine pk_lt (mr_pc (mr_nb i &&& M) + mr_pc (mr_nb i &&& op)) (mr_kl cl i) (fun r => no (fun z => ?_) e) (fun r => yes fun _ => ⟨q, r⟩) (nI_add _ _)
        have := z.2; omega
theorem my_cb5 {post : Int32 → Prop} (hok : mr_ok cl) {p : Nat → Nat} {N : Nat} {M op : Int32} (hN : N ≤ 20) (hed : ∀ i, i < N → ed i = nI (p i)) (h1 : mr_cb cl M op → post 1) (h0 : ¬ mr_cb cl M op → post 0) :
    ∀ (d i : Nat) (a : Int32), i + d = N → a ||| mr_op p N d = op → wY_canBe_5 post M tt (nI N) cc kn sm sf cl mr_nb ed fo fw (d + 1) a (nI i) := by
  intro d
  induction d with
  | zero =>
    intro i a hi hp
    rw [show mr_op p N 0 = 0 from rfl, mr_or_0] at hp
    subst hp
    exact pk_le N i (fun _ => Exists.intro 21 (my_cb35 hok h1 h0 20 0 rfl (fun c h => absurd h (Nat.not_lt_zero c)))) (fun h => absurd h (by omega))
  | succ d ih =>
    intro i a hi hp
    have hk : (nI i).toNatClampNeg = i := nI_clamp (by omega)
    refine pk_le N i (fun h => absurd h (by omega)) (fun _ => And.intro (pk_in i 20 (by omega)) ?_)
    refine nm_r (e' := a ||| mr_bit (p i)) (by rw [hk, hed i (by omega)]; rfl) (nm_r (nI_1 i) (ih (i + 1) _ (by omega) ?_))
    rw [mr_or_as, mr_or_cm (mr_bit (p i)), show i = N - (d + 1) by omega]
    exact hp
theorem my_canBe {post : Int32 → Prop} (hok : mr_ok cl) {p : Nat → Nat} {N k d : Nat} {M : Int32} (hN : N ≤ 20) (hed : ∀ i, i < N → ed i = nI (p i)) (hk : k + d = N) (h1 : mr_cb cl M (mr_op p N d) → post 1) (h0 : ¬ mr_cb cl M (mr_op p N d) → post 0) :
    wpY_canBe post (tt, nI N, cc, kn, sm, sf, cl, mr_nb, ed, fo, fw) M (nI k) :=
  Exists.intro (d + 1) (my_cb5 hok hN hed h1 h0 d k 0 hk (by rw [mr_or_cm, mr_or_0]))
/-- where a filling is noted -/
def mr_pl (S : Int32) (j : Nat) : Prop := bt S (j / 21) = true ∧ j % 21 = mr_pc S
theorem my_note18 {post : SY → Prop} {x : Int32} {p : Nat → Nat} {S : Int32} (hx : mr_W x) (hL : mr_Ls x p) (hed : ∀ i, i < mr_pc x → ed i = nI (p i)) (hS : ∀ i, bt S i = true → bt x i = true)
    (hp : post (tt, nI (mr_pc x), cc, kn, sm, sf, cl, nr, ed, fo, mr_ad fw (fun j => mr_b (mr_pl S j)))) : ∀ (d i : Nat) (fv : Nat → Int32), i + d = mr_pc x → fv = mr_ad fw (fun j => mr_b (mr_pl S j ∧ mr_ct (bt x) (j / 21) < i)) →
    wY_note_18 post S (nI (mr_pc S)) tt (nI (mr_pc x)) cc kn sm sf (d + 1) (nI i) cl nr ed fo fv := by
  have hN := mr_pc_le x
  have hM := mr_pc_le S
  intro d
  induction d with
  | zero =>
    intro i fv hi e
    refine pk_le (mr_pc x) i (fun _ => ?_) (fun h => absurd h (by omega))
    rw [e, show (fun j => mr_b (mr_pl S j ∧ mr_ct (bt x) (j / 21) < i)) = (fun j => mr_b (mr_pl S j)) from funext fun j => mr_b_iff ⟨fun z => z.1, fun z => ⟨z, ?_⟩⟩]
    · exact hp
    · have h1 := hS _ z.1
      have : mr_ct (bt x) (j / 21) < mr_pc x := mr_ct_ltN (mr_W_lt hx h1) h1
      omega
  | succ d ih =>
    intro i fv hi e
    have hk : (nI i).toNatClampNeg = i := nI_clamp (by omega)
    obtain ⟨a1, a2, a3⟩ := mr_Ls_at hL (k := i) (by omega)
    have hv : vp_in ((21 * nI (p i)) + nI (mr_pc S)) 420 := pk_in (21 * p i + mr_pc S) 420 (by omega) (mr_21 _ _)
    have hk2 : ((21 * nI (p i)) + nI (mr_pc S)).toNatClampNeg = 21 * p i + mr_pc S := by rw [mr_21]; exact nI_clamp (by omega)
    refine pk_le (mr_pc x) i (fun h => absurd h (by omega)) (fun _ => And.intro (pk_in i 20 (by omega)) (nm_r (e' := nI (p i)) (by rw [hk, hed i (by omega)]) ?_))
    have dm : (21 * p i + mr_pc S) / 21 = p i ∧ (21 * p i + mr_pc S) % 21 = mr_pc S := by omega
    have un : ∀ j, mr_pl S j → mr_ct (bt x) (j / 21) = i → j = 21 * p i + mr_pc S := fun j z y => by
      have e1 : j / 21 = p i := mr_ct_inj (f := bt x) (hS _ z.1) a2 (by omega)
      have := z.2
      omega
    refine ek_if (mr_has (by omega)) (fun m => And.intro hv (And.intro hv ?_)) (fun m => And.intro hv (And.intro hv ?_))
    · rw [hk2]
      refine nm_r (mr_ad_u fv _) (nm_r (nI_1 i) (ih (i + 1) _ (by omega) ?_))
      rw [e, mr_ad_ad]
      congr 1
      funext j
      by_cases q : j = 21 * p i + mr_pc S
      · rw [mr_b_t q, mr_b_f (fun z => by have := z.2; rw [q, dm.1, a3] at this; omega), mr_b_t ⟨by rw [q]; exact ⟨by rw [dm.1]; exact m, dm.2⟩, by rw [q, dm.1, a3]; omega⟩]
      · rw [mr_b_f q, Nat.add_zero]
        refine mr_b_iff ⟨fun z => ⟨z.1, by omega⟩, fun z => ⟨z.1, ?_⟩⟩
        have h3 : ¬ mr_ct (bt x) (j / 21) = i := fun y => q (un j z.1 y)
        have h4 := z.2
        omega
    · rw [hk2]
      refine nm_r (e' := fv) (funext fun j => ?_) (nm_r (nI_1 i) (ih (i + 1) _ (by omega) ?_))
      · show (if j = _ then fv _ else fv j) = fv j
        by_cases q : j = 21 * p i + mr_pc S
        · rw [if_pos q, q]
        · rw [if_neg q]
      · rw [e]
        congr 1
        funext j
        refine mr_b_iff ⟨fun z => ⟨z.1, by omega⟩, fun z => ⟨z.1, ?_⟩⟩
        have h1 := z.2
        by_cases q : mr_ct (bt x) (j / 21) = i
        · have q2 := un j z.1 q
          have q3 := z.1.1
          rw [q2, dm.1] at q3
          exact absurd q3 m
        · omega
theorem my_note {post : SY → Prop} {x : Int32} {p : Nat → Nat} {S : Int32} (hx : mr_W x) (hw : mr_W S) (hL : mr_Ls x p) (hed : ∀ i, i < mr_pc x → ed i = nI (p i)) (hS : ∀ i, bt S i = true → bt x i = true)
    (hp : post (tt, nI (mr_pc x), cc, kn, sm, sf, cl, nr, ed, mr_ad fo (fun j => mr_b (j = mr_pc S)), mr_ad fw (fun j => mr_b (mr_pl S j)))) : wpY_note post (tt, nI (mr_pc x), cc, kn, sm, sf, cl, nr, ed, fo, fw) S := by
  have hM := mr_pc_le S
  have hv : vp_in (nI (mr_pc S)) 21 := pk_in (mr_pc S) 21 (by omega)
  unfold wpY_note
  refine my_bits hw (And.intro hv (And.intro hv ?_))
  rw [nI_clamp (by omega)]
  refine nm_r (mr_ad_u fo _) (Exists.intro (mr_pc x + 1) (my_note18 hx hL hed hS hp (mr_pc x) 0 fw (by omega) ?_))
  exact (mr_ad_0 fw fun j => mr_b_f fun z => absurd z.2 (Nat.not_lt_zero _)).symm
/-- a subtree of the search: then back to the cell ahead -/
theorem my_D {post : SY → Prop} {x : Int32} {p : Nat → Nat} (hok : mr_ok cl) (hx : mr_W x) (hL : mr_Ls x p) (hed : ∀ i, i < mr_pc x → ed i = nI (p i)) : ∀ (d k : Nat) (M : Int32), k + d = mr_pc x → mr_W M → (∀ j, bt M j = true → bt x j = true ∧ mr_ct (bt x) j < k) →
    ∃ cost, ∀ (n : Nat) (fo fw : Nat → Int32),
      (∃ n65, wY_goThrough_65 post (wY_goThrough_6 post 1 n) 1 tt (nI (mr_pc x)) cc kn sm sf cl mr_nb ed (mr_ad fo (fun j => mr_SA p (mr_pc x) (fun S => mr_b (mr_ga cl S ∧ j = mr_pc S)) d M)) (mr_ad fw (fun j => mr_SA p (mr_pc x) (fun S => mr_b (mr_ga cl S ∧ mr_pl S j)) d M)) n65 M (nI k + (-1))) →
      wY_goThrough_6 post 1 (n + cost) M (nI k) tt (nI (mr_pc x)) cc kn sm sf cl mr_nb ed fo fw := by
  have hN := mr_pc_le x
  have cut : ∀ (d k : Nat) (M : Int32), k + d = mr_pc x → ¬ mr_cb cl M (mr_op p (mr_pc x) d) → ∀ (n : Nat) (fo fw : Nat → Int32),
      (∃ n65, wY_goThrough_65 post (wY_goThrough_6 post 1 n) 1 tt (nI (mr_pc x)) cc kn sm sf cl mr_nb ed (mr_ad fo (fun j => mr_SA p (mr_pc x) (fun S => mr_b (mr_ga cl S ∧ j = mr_pc S)) d M)) (mr_ad fw (fun j => mr_SA p (mr_pc x) (fun S => mr_b (mr_ga cl S ∧ mr_pl S j)) d M)) n65 M (nI k + (-1))) →
      wY_goThrough_6 post 1 (n + 1) M (nI k) tt (nI (mr_pc x)) cc kn sm sf cl mr_nb ed fo fw := by
    intro d k M hk hc n fo fw K
    rw [mr_ad_0 fo (fun j => mr_cb_cut hx hL (by omega) (fun S hS => mr_b_f fun z => hS z.1) hc), mr_ad_0 fw (fun j => mr_cb_cut hx hL (by omega) (fun S hS => mr_b_f fun z => hS z.1) hc)] at K
    refine br_f (nI_pos (by omega)) (br_f (by decide) (my_canBe hok hN hed hk (fun h => absurd h hc) (fun _ => br_t rfl ?_)))
    unfold wY_goThrough_27 wY_goThrough_28
    refine br_t rfl ?_
    unfold wY_goThrough_51
    exact br_t rfl (nm_e K)
  intro d
  induction d with
  | zero =>
    intro k M hk hM hs
    by_cases hc : mr_cb cl M (mr_op p (mr_pc x) 0)
    · have hga := mr_cb_leaf hc
      refine ⟨1, fun n fo fw K => ?_⟩
      refine br_f (nI_pos (by omega)) (br_f (by decide) (my_canBe hok hN hed hk (fun _ => br_f (by decide) ?_) (fun h => absurd hc h)))
      unfold wY_goThrough_28
      refine br_f (by decide) (pk_eq k (mr_pc x) (fun _ => ?_) (fun h => absurd hk h))
      refine my_note hx hM hL hed (fun i hi => (hs i hi).1) ?_
      unfold wY_goThrough_51
      refine br_t rfl (nm_e ?_)
      rw [show (fun j => mr_SA p (mr_pc x) (fun S => mr_b (mr_ga cl S ∧ j = mr_pc S)) 0 M) = (fun j => mr_b (j = mr_pc M)) from funext fun j => mr_b_iff ⟨fun z => z.2, fun z => ⟨hga, z⟩⟩,
        show (fun j => mr_SA p (mr_pc x) (fun S => mr_b (mr_ga cl S ∧ mr_pl S j)) 0 M) = (fun j => mr_b (mr_pl M j)) from funext fun j => mr_b_iff ⟨fun z => z.2, fun z => ⟨hga, z⟩⟩] at K
      exact K
    · exact ⟨1, cut 0 k M hk hc⟩
  | succ d ih =>
    intro k M hk hM hs
    by_cases hc : mr_cb cl M (mr_op p (mr_pc x) (d + 1))
    · obtain ⟨a1, a2, a3⟩ := mr_Ls_at hL (k := k) (by omega)
      have ek : mr_pc x - (d + 1) = k := by omega
      have hkc : (nI k).toNatClampNeg = k := nI_clamp (by omega)
      have hno : bt M (p k) = false := Bool.eq_false_iff.mpr fun z => by
        have := (hs _ z).2
        omega
      have hWz : mr_W (M ||| mr_bit (p k)) := mr_W_or hM (mr_W_bit a1)
      obtain ⟨c1, t1⟩ := ih (k + 1) M (by omega) hM (fun j hj => ⟨(hs j hj).1, by have := (hs j hj).2; omega⟩)
      obtain ⟨c2, t2⟩ := ih (k + 1) (M ||| mr_bit (p k)) (by omega) hWz (fun j hj => by
          have hl := mr_W_lt hWz hj
          rw [b_or, Bool.or_eq_true] at hj
          rcases hj with e | e
          · exact ⟨(hs j e).1, by have := (hs j e).2; omega⟩
          · rw [mr_bit_iff (by omega) (by omega)] at e
            rw [e]; exact ⟨a2, by omega⟩)
      refine ⟨c2 + c1 + 1, fun n fo fw K => ?_⟩
      rw [show n + (c2 + c1 + 1) = (n + c2) + c1 + 1 by omega]
      refine br_f (nI_pos (by omega)) (br_f (by decide) (my_canBe hok hN hed hk (fun _ => br_f (by decide) ?_) (fun h => absurd hc h)))
      unfold wY_goThrough_28
      refine br_f (by decide) (pk_eq k (mr_pc x) (fun h => absurd h (by omega)) (fun _ => ?_))
      unfold wY_goThrough_51
      refine br_f (by decide) (nm_r (nI_1 k) (t1 (n + c2) fo fw (Exists.intro 1 ?_)))
      rw [pk_m1]
      refine br_f (nI_pos (by omega)) (And.intro (pk_in k 20 (by omega)) ?_)
      rw [hkc, hed k (by omega)]
      refine br_f (fun z => ?_) ?_
      · rw [mr_has (by omega), hno] at z; exact absurd z (by decide)
      unfold wY_goThrough_102
      refine br_f (nI_pos (by omega)) (And.intro (pk_in k 20 (by omega)) (nm_r (e' := M ||| mr_bit (p k)) (by rw [hkc, hed k (by omega)]; rfl) (nm_r (nI_1 k) (t2 n _ _ ?_))))
      obtain ⟨n65, K⟩ := K
      refine Exists.intro (n65 + 1) ?_
      rw [pk_m1]
      refine br_f (nI_pos (by omega)) (And.intro (pk_in k 20 (by omega)) ?_)
      rw [hkc, hed k (by omega)]
      refine br_t ((mr_has (by omega)).mpr (by rw [b_or, mr_bit_self (by omega), Bool.or_true])) (And.intro (pk_in k 20 (by omega)) (nm_r (e' := M) (mr_clear2 (by omega) hno) (nm_e ?_)))
      rw [mr_ad_ad, mr_ad_ad]
      rw [← ek] at K ⊢
      exact K
    · exact ⟨1, cut (d + 1) k M hk hc⟩
end MY
end
section
/-! binomials, and the two ways to add up -/
theorem mr_C_s (n k : Nat) : mr_C (n + 1) (k + 1) = mr_C n k + mr_C n (k + 1) := rfl
theorem mr_C_z (n : Nat) : mr_C n 0 = 1 := by cases n <;> rfl
theorem mr_C_le : ∀ n k, mr_C n k ≤ 2 ^ n := by
  intro n
  induction n with
  | zero =>
    intro k
    cases k with
    | zero => exact Nat.le_refl 1
    | succ k => exact Nat.zero_le _
  | succ n ih =>
    intro k
    cases k with
    | zero => rw [mr_C_z]; exact Nat.two_pow_pos _
    | succ k =>
      have h1 := ih k
      have h2 := ih (k + 1)
      rw [mr_C_s, Nat.pow_succ]; omega
theorem mr_C_mul : ∀ n k, (k + 1) * mr_C n (k + 1) = (n - k) * mr_C n k := by
  intro n
  induction n with
  | zero =>
    intro k
    rw [mr_C_0 0 (k + 1) (by omega), Nat.zero_sub, Nat.zero_mul, Nat.mul_zero]
  | succ n ih =>
    intro k
    cases k with
    | zero =>
      have h := ih 0
      rw [mr_C_z, Nat.zero_add, Nat.one_mul, Nat.sub_zero, Nat.mul_one] at h
      rw [mr_C_s, mr_C_z, mr_C_z, Nat.zero_add, h]; omega
    | succ j =>
      have h1 := ih j
      have h2 := ih (j + 1)
      rw [mr_C_s, mr_C_s, Nat.mul_add, Nat.mul_add]
      have e1 : n + 1 - (j + 1) = n - j := by omega
      rw [e1, ← h1, h2]
      by_cases q : j + 1 ≤ n
      · rw [← Nat.add_mul, ← Nat.add_mul, show j + 1 + 1 + (n - (j + 1)) = j + 1 + (n - j) by omega]
      · rw [mr_C_0 n (j + 1) (by omega)]; omega
theorem mr_C_div {n k : Nat} : mr_C n k * (n - k) / (k + 1) = mr_C n (k + 1) := by
  rw [Nat.mul_comm, ← mr_C_mul, Nat.mul_div_cancel_left _ (by omega)]
theorem mr_sm_s (f : Nat → Nat) (n : Nat) : mr_sm f (n + 1) = mr_sm f n + f n := rfl
theorem mr_C_row (r : Nat) : ∀ n, mr_sm (mr_C (r + 1)) (n + 1) = mr_sm (mr_C r) (n + 1) + mr_sm (mr_C r) n := by
  intro n
  induction n with
  | zero =>
    show 0 + mr_C (r + 1) 0 = 0 + mr_C r 0 + 0
    rw [mr_C_z, mr_C_z]
  | succ n ih =>
    rw [mr_sm_s, ih, mr_C_s, mr_sm_s (mr_C r) (n + 1), mr_sm_s (mr_C r) n]; omega
theorem mr_C_sum : ∀ r N, r < N → mr_sm (mr_C r) N = 2 ^ r := by
  intro r
  induction r with
  | zero =>
    intro N hN
    rw [mr_sm_1 (j := 0) N hN (fun i _ hi => mr_C_0 0 i (by omega))]
    rfl
  | succ r ih =>
    intro N hN
    obtain ⟨n, rfl⟩ : ∃ n, N = n + 1 := ⟨N - 1, by omega⟩
    rw [mr_C_row, ih (n + 1) (by omega), ih n (by omega), Nat.pow_succ]; omega
theorem mr_sm_shift (a : Nat) (g : Nat → Nat) : ∀ N, mr_sm (fun n => mr_b (a ≤ n) * g (n - a)) N = mr_sm g (N - a) := by
  intro N
  induction N with
  | zero => rw [Nat.zero_sub]; rfl
  | succ N ih =>
    rw [mr_sm_s, ih]
    by_cases q : a ≤ N
    · rw [mr_b_t q, Nat.one_mul, show N + 1 - a = (N - a) + 1 by omega, mr_sm_s]
    · rw [mr_b_f q, Nat.zero_mul, show N + 1 - a = 0 by omega, show N - a = 0 by omega, Nat.add_zero]
theorem mr_hr_sum {r fx N : Nat} (h : r + fx < N) : mr_sm (mr_hr r fx) N = 2 ^ r := by
  have e : mr_sm (mr_hr r fx) N = mr_sm (fun n => mr_b (fx ≤ n) * mr_C r (n - fx)) N := mr_sm_congr N fun i _ => by
    unfold mr_hr
    by_cases q : i < fx
    · rw [if_pos q, mr_b_f (by omega), Nat.zero_mul]
    · rw [if_neg q, mr_b_t (by omega), Nat.one_mul]
  rw [e, mr_sm_shift, mr_C_sum r _ (by omega)]
/-- the ways to put the other mines, when there are a already -/
def mr_ot (w : Int32) (r a : Nat) : Nat := if w = -1 then 2 ^ r else if w.toNatClampNeg < a then 0 else mr_C r (w.toNatClampNeg - a)
def mr_wok (w : Int32) : Prop := w = -1 ∨ ∃ t : Nat, t ≤ 20 ∧ w = nI t
theorem mr_ot_le (w : Int32) (r a : Nat) : mr_ot w r a ≤ 2 ^ r := by
  unfold mr_ot
  split
  · exact Nat.le_refl _
  · split
    · exact Nat.zero_le _
    · exact mr_C_le _ _
theorem mr_ot_nI {t r a : Nat} (ht : t < 2 ^ 31) : mr_ot (nI t) r a = if t < a then 0 else mr_C r (t - a) := by
  unfold mr_ot
  rw [if_neg (mr_n1 ht), nI_clamp ht]
theorem mr_ot_sum {w : Int32} (hw : mr_wok w) {r fx a : Nat} (h : a + r + fx ≤ 20) : mr_sm (fun n => mr_b (w = -1 ∨ w = nI n) * (mr_b (a ≤ n) * mr_hr r fx (n - a))) 21 = mr_ot w r (a + fx) := by
  rcases hw with e | ⟨t, ht, e⟩
  · have e1 : mr_sm (fun n => mr_b (w = -1 ∨ w = nI n) * (mr_b (a ≤ n) * mr_hr r fx (n - a))) 21 = mr_sm (fun n => mr_b (a ≤ n) * mr_hr r fx (n - a)) 21 := mr_sm_congr 21 fun n _ => by
      rw [mr_b_t (Or.inl e), Nat.one_mul]
    rw [e1, mr_sm_shift, mr_hr_sum (by omega)]
    unfold mr_ot
    rw [if_pos e]
  · subst e
    rw [mr_sm_1 (j := t) 21 (by omega) (fun i hi hne => by
      rw [mr_b_f (fun z => z.elim (mr_n1 (by omega)) fun z => hne ((nI_eq (by omega) (by omega)).mp z).symm), Nat.zero_mul])]
    rw [mr_b_t (Or.inr rfl), Nat.one_mul, mr_ot_nI (by omega)]
    unfold mr_hr
    by_cases q : a ≤ t
    · rw [mr_b_t q, Nat.one_mul]
      by_cases q2 : t - a < fx
      · rw [if_pos q2, if_pos (by omega)]
      · rw [if_neg q2, if_neg (by omega), show t - a - fx = t - (a + fx) by omega]
    · rw [mr_b_f q, Nat.zero_mul, if_pos (by omega)]
theorem mr_F_0 {cl : Nat → Int32} {q : Int32} {a : Nat} (h : mr_pc (mr_edge cl) < a) : mr_F cl q a = 0 := by
  unfold mr_F mr_PF
  have e : mr_SS (mr_edge cl) (fun S => mr_b (mr_gd cl (mr_edge cl) S ∧ mr_Qt q (mr_edge cl) S ∧ mr_pc S = a)) 20 0 = mr_SS (mr_edge cl) (fun _ => 0) 20 0 := mr_SS_congr (by omega) mr_W0 fun S _ hS => mr_b_f fun z => by
    have := mr_pc_sub (x := S) (y := mr_edge cl) fun i _ e => (hS i e).elim (fun z => by rw [b_0] at z; exact absurd z (by decide)) id
    have := z.2.2
    omega
  rw [e, mr_SS_0, Nat.mul_zero]
theorem mr_fx_le (cl : Nat → Int32) (q : Int32) : mr_fx cl q ≤ mr_pc (mr_rest cl) := by
  unfold mr_fx
  by_cases e : mr_QQ q (mr_rest cl)
  · have e2 := e
    obtain ⟨c, c1, _, c3⟩ := e2
    rw [mr_b_t e]
    have := mr_pc_sub (x := mr_bit c) (y := mr_rest cl) fun i hi z => by
      rw [mr_bit_iff (by omega) (by omega)] at z
      rw [z]; exact c3
    rw [mr_pc_bit c1] at this
    exact this
  · rw [mr_b_f e]; exact Nat.zero_le _
/-- the reference's way to add up -/
noncomputable def mr_Y (cl : Nat → Int32) (w q : Int32) : Nat := mr_sm (fun a => mr_F cl q a * mr_ot w (mr_pc (mr_rest cl) - mr_fx cl q) (a + mr_fx cl q)) 21
theorem mr_N_Y (cl : Nat → Int32) {w : Int32} (hw : mr_wok w) (q : Int32) : mr_N cl w q = mr_Y cl w q := by
  have h1 := mr_rest_pc cl
  have h2 := mr_pc_le (mr_cov cl)
  have h3 := mr_fx_le cl q
  unfold mr_N mr_sums mr_cj mr_Y
  have e1 : mr_sm (fun n => mr_b (w = -1 ∨ w = nI n) * mr_sm (fun a => mr_b (a ≤ n) * (mr_F cl q a * mr_hr (mr_pc (mr_rest cl) - mr_fx cl q) (mr_fx cl q) (n - a))) 21) 21 =
      mr_sm (fun n => mr_sm (fun a => mr_F cl q a * (mr_b (w = -1 ∨ w = nI n) * (mr_b (a ≤ n) * mr_hr (mr_pc (mr_rest cl) - mr_fx cl q) (mr_fx cl q) (n - a)))) 21) 21 := mr_sm_congr 21 fun n _ => by
    rw [← mr_sm_mul]
    refine mr_sm_congr 21 fun a _ => ?_
    rw [Nat.mul_left_comm (mr_b (a ≤ n)), Nat.mul_left_comm (mr_b (w = -1 ∨ w = nI n))]
  rw [e1, mr_sm_swap]
  refine mr_sm_congr 21 fun a _ => ?_
  rw [mr_sm_mul]
  by_cases q2 : mr_pc (mr_edge cl) < a
  · rw [mr_F_0 q2, Nat.zero_mul, Nat.zero_mul]
  · rw [mr_ot_sum hw (by omega)]
theorem mr_F_sum (cl : Nat → Int32) (q : Int32) : mr_sm (fun a => mr_F cl q a) 21 ≤ 2 ^ mr_pc (mr_edge cl) := by
  have e : mr_sm (fun a => mr_F cl q a) 21 = mr_b (mr_LO cl) * mr_SS (mr_edge cl) (fun S => mr_sm (fun a => mr_b (mr_gd cl (mr_edge cl) S ∧ mr_Qt q (mr_edge cl) S ∧ mr_pc S = a)) 21) 20 0 := by
    rw [mr_SS_sm, ← mr_sm_mul]
    rfl
  have h1 : mr_SS (mr_edge cl) (fun S => mr_sm (fun a => mr_b (mr_gd cl (mr_edge cl) S ∧ mr_Qt q (mr_edge cl) S ∧ mr_pc S = a)) 21) 20 0 ≤ mr_SS (mr_edge cl) (fun _ => 1) 20 0 := mr_SS_le 20 0 (by omega) mr_W0 fun S _ _ => by
    rw [mr_sm_1 (j := mr_pc S) 21 (by have := mr_pc_le S; omega) (fun a _ hne => mr_b_f fun z => hne z.2.2.symm)]
    exact mr_b_le _
  rw [mr_SS_one _ 20 0 (by omega), show mr_pc (mr_edge cl) - mr_ct (bt (mr_edge cl)) (20 - 20) = mr_pc (mr_edge cl) from rfl] at h1
  rw [e]
  have h2 := mr_b_le (mr_LO cl)
  calc _ ≤ 1 * _ := Nat.mul_le_mul_right _ h2
    _ ≤ _ := by rw [Nat.one_mul]; exact h1
theorem mr_Y_le (cl : Nat → Int32) (w q : Int32) : mr_Y cl w q ≤ 2 ^ 20 := by
  have h1 := mr_rest_pc cl
  have h2 := mr_pc_le (mr_cov cl)
  have h3 : mr_Y cl w q ≤ mr_sm (fun a => 2 ^ mr_pc (mr_rest cl) * mr_F cl q a) 21 := mr_sm_le 21 fun a _ => by
    rw [Nat.mul_comm (2 ^ _)]
    exact Nat.mul_le_mul_left _ (Nat.le_trans (mr_ot_le _ _ _) (Nat.pow_le_pow_right (by decide) (by omega)))
  rw [mr_sm_mul] at h3
  have h4 := Nat.mul_le_mul_left (2 ^ mr_pc (mr_rest cl)) (mr_F_sum cl q)
  rw [← Nat.pow_add] at h4
  have h5 : 2 ^ (mr_pc (mr_rest cl) + mr_pc (mr_edge cl)) ≤ 2 ^ 20 := Nat.pow_le_pow_right (by decide) (by omega)
  exact Nat.le_trans h3 (Nat.le_trans h4 h5)
theorem mr_fx_n (cl : Nat → Int32) : mr_fx cl (-1) = 0 := mr_b_f fun ⟨c, c1, c2, _⟩ => mr_n1 (by omega) c2.symm
theorem mr_fx_e {cl : Nat → Int32} {c : Nat} (hc : c < 20) (h : bt (mr_edge cl) c = true) : mr_fx cl (nI c) = 0 := mr_b_f fun ⟨d, d1, d2, d3⟩ => by
  rw [nI_eq (by omega) (by omega)] at d2
  rw [← d2] at d3
  have := (mr_rest_bt.mp d3).2
  rw [h] at this
  exact absurd this (by decide)
theorem mr_fx_r {cl : Nat → Int32} {c : Nat} (hc : c < 20) (hv : cl c = -1) (h : bt (mr_edge cl) c = false) : mr_fx cl (nI c) = 1 := mr_b_t ⟨c, hc, rfl, mr_rest_bt.mpr ⟨(mr_cov_t hc).mpr hv, h⟩⟩
theorem mr_F_r {cl : Nat → Int32} {c : Nat} (hc : c < 20) (h : bt (mr_edge cl) c = false) (a : Nat) : mr_F cl (nI c) a = mr_F cl (-1) a := by
  unfold mr_F mr_PF
  congr 1
  refine mr_SS_congr (by omega) mr_W0 fun S _ _ => mr_b_iff ?_
  have e1 : mr_Qt (nI c) (mr_edge cl) S := fun d d1 d2 d3 => by
    rw [nI_eq (by omega) (by omega)] at d2
    rw [← d2, h] at d3
    exact absurd d3 (by decide)
  have e2 : mr_Qt (-1) (mr_edge cl) S := fun d d1 d2 _ => absurd d2.symm (mr_n1 (by omega))
  exact ⟨fun z => ⟨z.1, e2, z.2.2⟩, fun z => ⟨z.1, e1, z.2.2⟩⟩
theorem mr_F_le (cl : Nat → Int32) (q : Int32) (a : Nat) : mr_F cl q a ≤ mr_F cl (-1) a := by
  unfold mr_F mr_PF
  refine Nat.mul_le_mul_left _ (mr_SS_le 20 0 (by omega) mr_W0 fun S _ _ => mr_b_imp fun z => ⟨z.1, fun d d1 d2 _ => absurd d2.symm (mr_n1 (by omega)), z.2.2⟩)
theorem mr_ot_mono (w : Int32) (r a : Nat) (hr : 1 ≤ r) : mr_ot w (r - 1) (a + 1) ≤ mr_ot w r a := by
  obtain ⟨m, rfl⟩ : ∃ m, r = m + 1 := ⟨r - 1, by omega⟩
  rw [Nat.add_sub_cancel]
  unfold mr_ot
  by_cases e : w = -1
  · rw [if_pos e, if_pos e]; exact Nat.pow_le_pow_right (by decide) (by omega)
  · rw [if_neg e, if_neg e]
    by_cases q : w.toNatClampNeg < a + 1
    · rw [if_pos q]; exact Nat.zero_le _
    · rw [if_neg q, if_neg (by omega), show w.toNatClampNeg - a = (w.toNatClampNeg - (a + 1)) + 1 by omega, mr_C_s]
      exact Nat.le_add_right _ _
/-- fewer with a mine in a cell than all -/
theorem mr_Y_mono {cl : Nat → Int32} (w : Int32) {c : Nat} (hc : c < 20) (hv : cl c = -1) : mr_Y cl w (nI c) ≤ mr_Y cl w (-1) := by
  unfold mr_Y
  rw [mr_fx_n]
  refine mr_sm_le 21 fun a _ => ?_
  cases h : bt (mr_edge cl) c with
  | true =>
    rw [mr_fx_e hc h]
    exact Nat.mul_le_mul_right _ (mr_F_le _ _ _)
  | false =>
    rw [mr_fx_r hc hv h, mr_F_r hc h]
    have := mr_fx_le cl (nI c)
    rw [mr_fx_r hc hv h] at this
    exact Nat.mul_le_mul_left _ (mr_ot_mono w _ a this)
end
section
/-! the reference: what it finds, and its counts -/
theorem mr_ga_iff {cl : Nat → Int32} (hok : mr_ok cl) {S : Int32} (hS : ∀ i, bt S i = true → bt (mr_edge cl) i = true) : mr_ga cl S ↔ mr_LO cl ∧ mr_gd cl (mr_edge cl) S := by
  have z0 : ∀ c, mr_nc cl c = 0 → mr_pc (mr_nb c &&& S) = 0 := fun c e => mr_ct_z 20 fun i _ => by
    rw [b_and]
    cases h : bt S i with
    | false => exact Bool.and_false _
    | true =>
      have : bt (mr_nb c) i = false := Bool.eq_false_iff.mpr fun z => by
        have h1 := mr_nc_bt.mpr ⟨z, mr_edge_cov (hS i h)⟩
        rw [e, b_0] at h1
        exact absurd h1 (by decide)
      rw [this]; rfl
  constructor
  · intro h
    refine ⟨fun c hc hs e => ?_, fun c hc hs _ => h c hc hs⟩
    have h1 := h c hc hs
    rw [z0 c e] at h1
    rw [(mr_kl_e hok hc hs).1, ← h1]; rfl
  · rintro ⟨h1, h2⟩ c hc hs
    by_cases e : mr_nc cl c = 0
    · rw [z0 c e]
      have := h1 c hc hs e
      unfold mr_kl
      rw [this]; rfl
    · obtain ⟨i, _, hi⟩ := mr_ex (mr_nc_W cl c) e
      exact h2 c hc hs ⟨i, hi, mr_edge_bt.mpr ⟨c, hc, hs, hi⟩⟩
theorem mr_F_y {cl : Nat → Int32} (hok : mr_ok cl) (n : Nat) : mr_SS (mr_edge cl) (fun S => mr_b (mr_ga cl S ∧ n = mr_pc S)) 20 0 = mr_F cl (-1) n := by
  unfold mr_F mr_PF
  rw [← mr_SS_mul]
  refine mr_SS_congr (by omega) mr_W0 fun S _ hS => ?_
  have hS2 : ∀ i, bt S i = true → bt (mr_edge cl) i = true := fun i h => (hS i h).elim (fun z => by rw [b_0] at z; exact absurd z (by decide)) id
  rw [← mr_b_and]
  refine mr_b_iff ?_
  rw [mr_ga_iff hok hS2]
  exact ⟨fun z => ⟨z.1.1, z.1.2, fun d d1 d2 _ => absurd d2.symm (mr_n1 (by omega)), z.2.symm⟩, fun z => ⟨⟨z.1, z.2.1⟩, z.2.2.2.symm⟩⟩
theorem mr_F_yw {cl : Nat → Int32} (hok : mr_ok cl) {c n : Nat} (hc : c < 20) (he : bt (mr_edge cl) c = true) (hn : n < 21) : mr_SS (mr_edge cl) (fun S => mr_b (mr_ga cl S ∧ mr_pl S (21 * c + n))) 20 0 = mr_F cl (nI c) n := by
  unfold mr_F mr_PF
  rw [← mr_SS_mul]
  refine mr_SS_congr (by omega) mr_W0 fun S _ hS => ?_
  have hS2 : ∀ i, bt S i = true → bt (mr_edge cl) i = true := fun i h => (hS i h).elim (fun z => by rw [b_0] at z; exact absurd z (by decide)) id
  rw [← mr_b_and]
  refine mr_b_iff ?_
  unfold mr_pl
  rw [mr_ga_iff hok hS2, show (21 * c + n) / 21 = c by omega, show (21 * c + n) % 21 = n by omega]
  constructor
  · rintro ⟨⟨a, b⟩, d, e⟩
    refine ⟨a, b, fun c' c1 c2 _ => ?_, e.symm⟩
    rw [nI_eq (by omega) (by omega)] at c2
    rw [← c2]; exact d
  · rintro ⟨a, b, d, e⟩
    exact ⟨⟨a, b⟩, d c hc rfl he, e.symm⟩
def mr_kn (cl : Nat → Int32) (ec cc : Int32) (fo fw : Nat → Int32) : Prop := ec = nI (mr_pc (mr_edge cl)) ∧ cc = nI (mr_pc (mr_cov cl)) ∧ (∀ n, n < 21 → fo n = nI (mr_F cl (-1) n)) ∧
  ∀ c, c < 20 → bt (mr_edge cl) c = true → ∀ n, n < 21 → fw (21 * c + n) = nI (mr_F cl (nI c) n)
section MY
variable {tt ec cc kn sm sf : Int32} {cl nr ed fo fw : Nat → Int32}
theorem my_go {post : SY → Prop} {x : Int32} {p : Nat → Nat} (hok : mr_ok cl) (hx : mr_W x) (hL : mr_Ls x p) (hed : ∀ i, i < mr_pc x → ed i = nI (p i))
    (hp : post (tt, nI (mr_pc x), cc, kn, sm, sf, cl, mr_nb, ed, mr_ad fo (fun j => mr_SS x (fun S => mr_b (mr_ga cl S ∧ j = mr_pc S)) 20 0), mr_ad fw (fun j => mr_SS x (fun S => mr_b (mr_ga cl S ∧ mr_pl S j)) 20 0))) :
    wpY_goThrough post (tt, nI (mr_pc x), cc, kn, sm, sf, cl, mr_nb, ed, fo, fw) := by
  obtain ⟨cost, c1⟩ := my_D (post := post) (tt := tt) (cc := cc) (kn := kn) (sm := sm) (sf := sf) hok hx hL hed (mr_pc x) 0 0 (by omega) mr_W0 (fun j h => by rw [b_0] at h; exact absurd h (by decide))
  refine Exists.intro (1 + cost) (c1 1 fo fw (Exists.intro 1 ?_))
  refine br_t (by decide) ?_
  unfold wY_goThrough_102
  refine br_t (by decide) (br_t (by decide) ?_)
  rw [show (fun j => mr_SA p (mr_pc x) (fun S => mr_b (mr_ga cl S ∧ j = mr_pc S)) (mr_pc x) 0) = (fun j => mr_SS x (fun S => mr_b (mr_ga cl S ∧ j = mr_pc S)) 20 0) from funext fun j => mr_SA_all hL,
    show (fun j => mr_SA p (mr_pc x) (fun S => mr_b (mr_ga cl S ∧ mr_pl S j)) (mr_pc x) 0) = (fun j => mr_SS x (fun S => mr_b (mr_ga cl S ∧ mr_pl S j)) 20 0) from funext fun j => mr_SA_all hL]
  exact hp
theorem my_fa74 {post : SY → Prop} {x : Int32} {p : Nat → Nat} (hok : mr_ok cl) (hx : mr_W x) (hL : mr_Ls x p) (hed : ∀ i, i < mr_pc x → ed i = nI (p i))
    (hp : ∀ fo fw : Nat → Int32, (∀ j, j < 21 → fo j = nI (mr_SS x (fun S => mr_b (mr_ga cl S ∧ j = mr_pc S)) 20 0)) → (∀ j, j < 420 → fw j = nI (mr_SS x (fun S => mr_b (mr_ga cl S ∧ mr_pl S j)) 20 0)) → post (tt, nI (mr_pc x), cc, kn, sm, sf, cl, mr_nb, ed, fo, fw)) :
    ∀ (d i : Nat) (fo fw : Nat → Int32), i + d = 420 → (∀ j, j < 21 → j < i → fo j = 0) → (∀ j, j < i → fw j = 0) → wY_findAll_74 post tt (nI (mr_pc x)) cc kn sm sf (d + 1) (nI i) cl mr_nb ed fo fw := by
  intro d
  induction d with
  | zero =>
    intro i fo fw hi h1 h2
    have : i = 420 := by omega
    subst this
    refine pk_le 420 420 (fun _ => my_go hok hx hL hed (hp _ _ (fun j hj => ?_) (fun j hj => ?_))) (fun h => absurd h (by omega))
    · show fo j + nI _ = _
      rw [h1 j hj (by omega), Int32.zero_add]
    · show fw j + nI _ = _
      rw [h2 j hj, Int32.zero_add]
  | succ d ih =>
    intro i fo fw hi h1 h2
    have hk : (nI i).toNatClampNeg = i := nI_clamp (by omega)
    have er : nI i - nI i / 21 * 21 = nI (i % 21) := pk_rem (d := 21) (by omega) (by decide) (by decide)
    have hk2 : (nI i - nI i / 21 * 21).toNatClampNeg = i % 21 := by rw [er]; exact nI_clamp (by omega)
    refine pk_le 420 i (fun h => absurd h (by omega)) (fun _ => And.intro (pk_in i 420 (by omega)) (nm_r (e' := upd fw i 0) (by rw [hk]) (And.intro (by decide) (And.intro (pk_in (i % 21) 21 (by omega) er) (nm_r (e' := upd fo (i % 21) 0) (by rw [hk2]) (nm_r (nI_1 i) (ih (i + 1) _ _ (by omega) (fun j hj hj2 => ?_) (fun j hj => ?_))))))))
    · by_cases e : j = i % 21
      · rw [e]; exact pk_us
      · rw [pk_un e]; exact h1 j hj (by omega)
    · by_cases e : j = i
      · rw [e]; exact pk_us
      · rw [pk_un e]; exact h2 j (by omega)
theorem my_fa32 {post : SY → Prop} (hok : mr_ok cl) (hp : ∀ ed fo fw : Nat → Int32, mr_kn cl (nI (mr_pc (mr_edge cl))) (nI (mr_pc (mr_cov cl))) fo fw → post (tt, nI (mr_pc (mr_edge cl)), nI (mr_pc (mr_cov cl)), kn, sm, sf, cl, mr_nb, ed, fo, fw)) :
    ∀ (d i : Nat) (ed : Nat → Int32), i + d = 20 → (∀ c, c < i → bt (mr_edge cl) c = true → ed (mr_ct (bt (mr_edge cl)) c) = nI c) →
    wY_findAll_32 post tt (nI (mr_pc (mr_cov cl))) kn sm sf (d + 1) (nI i) (nI (mr_ct (bt (mr_edge cl)) i)) cl mr_nb ed fo fw := by
  intro d
  induction d with
  | zero =>
    intro i ed hi H
    have : i = 20 := by omega
    subst this
    have hN := mr_pc_le (mr_edge cl)
    have hed2 : ∀ i, i < mr_pc (mr_edge cl) → ed i = nI (ed i).toNatClampNeg := fun i hi => by
      obtain ⟨c, c1, c2, c3⟩ := mr_ct_at 20 hi
      have e := H c c1 c2
      rw [c3] at e
      rw [e, nI_clamp (by omega)]
    have hL : mr_Ls (mr_edge cl) (fun i => (ed i).toNatClampNeg) := fun c c1 c2 => by
      show (ed (mr_ct (bt (mr_edge cl)) c)).toNatClampNeg = c
      rw [H c c1 c2, nI_clamp (by omega)]
    refine pk_le 20 20 (fun _ => Exists.intro 421 (my_fa74 (x := mr_edge cl) hok (mr_edge_W cl) hL hed2 (fun fo fw h1 h2 => hp ed fo fw ⟨rfl, rfl, fun n hn => ?_, fun c hc he n hn => ?_⟩) 420 0 fo fw rfl (fun j _ h => absurd h (Nat.not_lt_zero j)) (fun j h => absurd h (Nat.not_lt_zero j)))) (fun h => absurd h (by omega))
    · rw [h1 n hn, mr_F_y hok]
    · rw [h2 _ (by omega), mr_F_yw hok hc he hn]
  | succ d ih =>
    intro i ed hi H
    have hr : mr_ct (bt (mr_edge cl)) i ≤ i := mr_ct_le _ _
    refine pk_le 20 i (fun h => absurd h (by omega)) (fun _ => my_edge hok (by omega) (fun e => br_f (by decide) ?_) (fun e => br_t rfl ?_))
    · refine And.intro (pk_in (mr_ct (bt (mr_edge cl)) i) 20 (by omega)) ?_
      have h1 := ih (i + 1) (upd ed (mr_ct (bt (mr_edge cl)) i) (nI i)) (by omega) (fun c hc hb => by
        by_cases q : c = i
        · subst q; exact pk_us
        · have := mr_ct_ltN (f := bt (mr_edge cl)) (m := c) (n := i) (by omega) hb
          rw [pk_un (by omega)]
          exact H c (by omega) hb)
      rw [mr_ct_t e] at h1
      exact nm_r (e' := upd ed (mr_ct (bt (mr_edge cl)) i) (nI i)) (by rw [nI_clamp (by omega)]) (nm_r (nI_1 _) (nm_r (nI_1 i) h1))
    · have h1 := ih (i + 1) ed (by omega) (fun c hc hb => by
        by_cases q : c = i
        · subst q; rw [e] at hb; exact absurd hb (by decide)
        · exact H c (by omega) hb)
      rw [mr_ct_f e] at h1
      exact nm_r (nI_1 i) h1
theorem my_findAll {post : SY → Prop} (hok : mr_ok cl) (hkn : kn ≠ 0 → mr_kn cl ec cc fo fw) (hp : ∀ (ec cc kn : Int32) (ed fo fw : Nat → Int32), kn ≠ 0 → mr_kn cl ec cc fo fw → post (tt, ec, cc, kn, sm, sf, cl, mr_nb, ed, fo, fw)) :
    wpY_findAll post (tt, ec, cc, kn, sm, sf, cl, mr_nb, ed, fo, fw) := by
  unfold wpY_findAll
  refine br_c (fun e => my_cov hok (my_bits (mr_cov_W cl) (Exists.intro 21 ?_))) (fun e => hp ec cc kn ed fo fw e (hkn e))
  exact my_fa32 hok (fun ed fo fw h => hp _ _ _ ed fo fw (by decide) h) 20 0 ed rfl (fun c h => absurd h (Nat.not_lt_zero c))
/-! choices -/
theorem my_ch16 {post : Int32 → Prop} {n k : Nat} (hn : n ≤ 20) (hk : k ≤ n) (hp : post (nI (mr_C n k))) : ∀ (d i : Nat), i + d = k → wY_choices_16 post (nI n) (nI k) tt ec cc kn sm sf cl nr ed fo fw (d + 1) (lN (mr_C n i)) (nI i) := by
  intro d
  induction d with
  | zero =>
    intro i hi
    have : i = k := by omega
    subst this
    refine pk_le i i (fun _ => ?_) (fun h => absurd h (by omega))
    rw [lN_i]; exact hp
  | succ d ih =>
    intro i hi
    have hb := mr_C_le n i
    have hb2 : 2 ^ n ≤ 2 ^ 20 := Nat.pow_le_pow_right (by decide) hn
    have hm : mr_C n i * (n - i) ≤ 2 ^ 20 * 20 := Nat.mul_le_mul (Nat.le_trans hb hb2) (by omega)
    have hm2 : mr_C n i * (n - i) < 2 ^ 63 := Nat.lt_of_le_of_lt hm (by decide)
    have e1 : (nI i + 1).toInt64 = lN (i + 1) := by rw [nI_1, nI_l (by omega)]
    have e2 : (nI n - nI i).toInt64 = lN (n - i) := by rw [pk_sub (by omega), nI_l (by omega)]
    refine pk_le k i (fun h => absurd h (by omega)) (fun _ => And.intro ?_ (nm_r (e' := lN (mr_C n (i + 1))) ?_ (nm_r (nI_1 i) (ih (i + 1) (by omega)))))
    · rw [e1]
      show ¬ lN (i + 1) = lN 0
      rw [lN_eq (by omega) (by omega)]
      omega
    · rw [e1, e2, lN_mul, pk_lDiv hm2 (by omega) (by omega), mr_C_div]
theorem my_choices {post : Int32 → Prop} {n k : Nat} (hn : n ≤ 20) (hk : k < 2 ^ 31) (hp : post (nI (mr_C n k))) : wpY_choices post (tt, ec, cc, kn, sm, sf, cl, nr, ed, fo, fw) (nI n) (nI k) := by
  unfold wpY_choices
  refine br_f (nI_pos hk) (pk_le k n (fun h => Exists.intro (k + 1) ?_) (fun h => ?_))
  · have := my_ch16 (tt := tt) (ec := ec) (cc := cc) (kn := kn) (sm := sm) (sf := sf) (cl := cl) (nr := nr) (ed := ed) (fo := fo) (fw := fw) hn h hp k 0 (by omega)
    rw [mr_C_z] at this
    exact this
  · rw [mr_C_0 n k h] at hp; exact hp
theorem my_choices_n {post : Int32 → Prop} {x y : Int32} (h : y < 0) (hp : post 0) : wpY_choices post (tt, ec, cc, kn, sm, sf, cl, nr, ed, fo, fw) x y := br_t h hp
theorem my_others {post : Int32 → Prop} {r a : Nat} (hw : mr_wok tt) (hr : r ≤ 20) (ha : a ≤ 21) (hp : post (nI (mr_ot tt r a))) : wpY_others post (tt, ec, cc, kn, sm, sf, cl, nr, ed, fo, fw) (nI r) (nI a) := by
  unfold wpY_others
  rcases hw with e | ⟨t, ht, e⟩
  · subst e
    refine br_f (by decide) ?_
    unfold mr_ot at hp
    rw [if_pos rfl] at hp
    have hb2 : 2 ^ r ≤ 2 ^ 20 := Nat.pow_le_pow_right (by decide) hr
    have e2 : (1 : Int32) <<< (nI r &&& 31) = nI (2 ^ r) := by
      have := pk_shlN (n := 1) (nI r &&& 31) r (s_l r (by omega)) (by rw [Nat.one_mul]; exact Nat.lt_of_le_of_lt hb2 (by decide))
      rw [Nat.one_mul] at this
      exact this
    rw [e2]; exact hp
  · subst e
    refine br_t (nI_pos' (by omega)) ?_
    rw [mr_ot_nI (by omega)] at hp
    by_cases q : t < a
    · rw [if_pos q] at hp
      exact my_choices_n (pk_sneg (by omega) q) hp
    · rw [if_neg q] at hp
      rw [pk_sub (by omega)]
      exact my_choices hr (by omega) hp
theorem my_count8 {post : Int32 → SY → Prop} {r : Nat} (hw : mr_wok tt) (hr : r ≤ 20) (he : cc - ec = nI r) (hfo : ∀ n, n < 21 → fo n = nI (mr_F cl (-1) n))
    (hp : post (nI (mr_sm (fun a => mr_F cl (-1) a * mr_ot tt r a) 21)) (tt, ec, cc, kn, sm, sf, cl, nr, ed, fo, fw)) : ∀ (d i : Nat), i + d = 21 →
    wY_count_8 post tt ec cc kn sm sf cl nr ed fo fw (d + 1) (nI (mr_sm (fun a => mr_F cl (-1) a * mr_ot tt r a) i)) (nI i) := by
  intro d
  induction d with
  | zero =>
    intro i hi
    have : i = 21 := by omega
    subst this
    exact pk_le 21 21 (fun _ => hp) (fun h => absurd h (by omega))
  | succ d ih =>
    intro i hi
    have h1 := ih (i + 1) (by omega)
    have hk : (nI i).toNatClampNeg = i := nI_clamp (by omega)
    refine pk_le 21 i (fun h => absurd h (by omega)) (fun _ => And.intro (pk_in i 21 (by omega)) ?_)
    rw [he]
    refine my_others hw hr (by omega) (nm_r (e' := nI (mr_sm (fun a => mr_F cl (-1) a * mr_ot tt r a) (i + 1))) ?_ (nm_r (nI_1 i) h1))
    rw [hk, hfo i (by omega), pk_mul, nI_add]
    rfl
theorem my_rest {cl : Nat → Int32} {ec cc : Int32} {fo fw : Nat → Int32} (h : mr_kn cl ec cc fo fw) : cc - ec = nI (mr_pc (mr_rest cl)) := by
  rw [h.1, h.2.1, pk_sub (by have := mr_rest_pc cl; omega)]
  exact congrArg nI (by have := mr_rest_pc cl; omega)
theorem my_count {post : Int32 → SY → Prop} (hok : mr_ok cl) (hw : mr_wok tt) (hkn : kn ≠ 0 → mr_kn cl ec cc fo fw)
    (hp : ∀ (ec cc kn : Int32) (ed fo fw : Nat → Int32), (kn ≠ 0 → mr_kn cl ec cc fo fw) → post (nI (mr_Y cl tt (-1))) (tt, ec, cc, kn, sm, sf, cl, mr_nb, ed, fo, fw)) :
    wpY_count post (tt, ec, cc, kn, sm, sf, cl, mr_nb, ed, fo, fw) := by
  unfold wpY_count
  refine my_findAll hok hkn fun ec cc kn ed fo fw h1 h2 => Exists.intro 22 (my_count8 hw (mr_pc_le _) (my_rest h2) h2.2.2.1 ?_ 21 0 rfl)
  have h3 := hp ec cc kn ed fo fw (fun _ => h2)
  unfold mr_Y at h3
  rw [mr_fx_n] at h3
  exact h3
theorem my_cm19 {post : Int32 → SY → Prop} {c : Nat} (hok : mr_ok cl) (hw : mr_wok tt) (hc : c < 20) (hv : cl c = -1) (h : mr_kn cl ec cc fo fw)
    (hp : post (nI (mr_Y cl tt (nI c))) (tt, ec, cc, kn, sm, sf, cl, mr_nb, ed, fo, fw)) : ∀ (d i : Nat), i + d = 21 →
    wY_countMined_19 post (nI c) (nI (mr_pc (mr_rest cl))) tt ec cc kn sm sf cl mr_nb ed fo fw (d + 1) (nI (mr_sm (fun a => mr_F cl (nI c) a * mr_ot tt (mr_pc (mr_rest cl) - mr_fx cl (nI c)) (a + mr_fx cl (nI c))) i)) (nI i) := by
  have hl := mr_pc_le (mr_rest cl)
  intro d
  induction d with
  | zero =>
    intro i hi
    have : i = 21 := by omega
    subst this
    exact pk_le 21 21 (fun _ => hp) (fun h => absurd h (by omega))
  | succ d ih =>
    intro i hi
    have h1 := ih (i + 1) (by omega)
    have hk : (nI i).toNatClampNeg = i := nI_clamp (by omega)
    have hkc : (nI c).toNatClampNeg = c := nI_clamp (by omega)
    refine pk_le 21 i (fun h => absurd h (by omega)) (fun _ => And.intro (pk_in c 20 hc) ?_)
    rw [hkc, hv]
    refine br_f (by decide) (my_edge hok hc (fun e => br_f (by decide) ?_) (fun e => br_t rfl ?_))
    · have hk2 : ((21 * nI c) + nI i).toNatClampNeg = 21 * c + i := by rw [mr_21]; exact nI_clamp (by omega)
      refine And.intro (pk_in (21 * c + i) 420 (by omega) (mr_21 _ _)) (my_others hw hl (by omega) (nm_r (e' := nI (mr_sm (fun a => mr_F cl (nI c) a * mr_ot tt (mr_pc (mr_rest cl) - mr_fx cl (nI c)) (a + mr_fx cl (nI c))) (i + 1))) ?_ (nm_r (nI_1 i) h1)))
      rw [hk2, h.2.2.2 c hc e i (by omega), pk_mul, nI_add, mr_sm_s, mr_fx_e hc e]
      rfl
    · have h2 := mr_fx_le cl (nI c)
      rw [mr_fx_r hc hv e] at h2
      have e1 : nI (mr_pc (mr_rest cl)) - 1 = nI (mr_pc (mr_rest cl) - 1) := pk_sub (b := 1) h2
      refine And.intro (pk_in i 21 (by omega)) ?_
      rw [e1, nI_1]
      refine my_others hw (by omega) (by omega) (nm_r (e' := nI (mr_sm (fun a => mr_F cl (nI c) a * mr_ot tt (mr_pc (mr_rest cl) - mr_fx cl (nI c)) (a + mr_fx cl (nI c))) (i + 1))) ?_ (nm_e h1))
      rw [hk, h.2.2.1 i (by omega), pk_mul, nI_add, mr_sm_s, mr_fx_r hc hv e, mr_F_r hc e]
theorem my_mined1 {post : Int32 → SY → Prop} {c : Nat} (hok : mr_ok cl) (hw : mr_wok tt) (hc : c < 20) (hkn : kn ≠ 0 → mr_kn cl ec cc fo fw)
    (h0 : cl c ≠ -1 → ∀ (ec cc kn : Int32) (ed fo fw : Nat → Int32), (kn ≠ 0 → mr_kn cl ec cc fo fw) → post 0 (tt, ec, cc, kn, sm, sf, cl, mr_nb, ed, fo, fw))
    (hp : cl c = -1 → ∀ (ec cc kn : Int32) (ed fo fw : Nat → Int32), (kn ≠ 0 → mr_kn cl ec cc fo fw) → post (nI (mr_Y cl tt (nI c))) (tt, ec, cc, kn, sm, sf, cl, mr_nb, ed, fo, fw)) :
    wpY_countMined post (tt, ec, cc, kn, sm, sf, cl, mr_nb, ed, fo, fw) (nI c) := by
  unfold wpY_countMined
  refine my_findAll hok hkn fun ec cc kn ed fo fw h1 h2 => nm_r (my_rest h2) ?_
  by_cases e : cl c = -1
  · exact Exists.intro 22 (my_cm19 hok hw hc e h2 (hp e ec cc kn ed fo fw (fun _ => h2)) 21 0 rfl)
  · refine Exists.intro 1 (pk_le 21 0 (fun h => absurd h (by omega)) (fun _ => And.intro (pk_in c 20 hc) (br_t ?_ (h0 e ec cc kn ed fo fw (fun _ => h2)))))
    rw [nI_clamp (by omega)]
    exact (mr_ge0 hok hc).mpr e
end MY
end
section
/-! the rules: closed states, and that the rules only come nearer to them -/
def mr_oA (cl : Nat → Int32) (M F : Int32) (c : Nat) : Int32 := (mr_nc cl c &&& (M ^^^ (-1))) &&& (F ^^^ (-1))
def mr_lf (cl : Nat → Int32) (M : Int32) (c : Nat) : Int := (mr_kl cl c : Int) - (mr_pc (mr_nb c &&& M) : Int)
def mr_O (cl : Nat → Int32) (M F : Int32) (a b : Nat) : Int32 := if a = b then mr_oA cl M F a else mr_oA cl M F b &&& (mr_oA cl M F a ^^^ (-1))
def mr_m (cl : Nat → Int32) (M : Int32) (a b : Nat) : Int := if a = b then mr_lf cl M a else mr_lf cl M b - mr_lf cl M a
def mr_A (cl : Nat → Int32) (M F : Int32) (a b : Nat) : Prop := a < 20 ∧ b < 20 ∧ cl a ≠ -1 ∧ cl b ≠ -1 ∧ (a ≠ b → mr_oA cl M F a &&& (mr_oA cl M F b ^^^ (-1)) = 0)
def mr_R (cl : Nat → Int32) (M F : Int32) (a b : Nat) : Prop := 0 ≤ mr_m cl M a b ∧ mr_m cl M a b ≤ (mr_pc (mr_O cl M F a b) : Int) ∧ ((mr_m cl M a b = 0 ∨ mr_m cl M a b = (mr_pc (mr_O cl M F a b) : Int)) → mr_O cl M F a b = 0)
def mr_D (cl : Nat → Int32) (M F : Int32) : Prop := mr_W M ∧ mr_W F ∧ (∀ i, bt M i = true → bt (mr_cov cl) i = true) ∧ ∀ i, bt M i = true → bt F i = true → False
def mr_Cz (bo : Prop) (cl : Nat → Int32) (M F : Int32) : Prop := mr_D cl M F ∧ ∀ a b, (a = b ∨ bo) → mr_A cl M F a b → mr_R cl M F a b
def mr_Le (M F M' F' : Int32) : Prop := (∀ i, bt M i = true → bt M' i = true) ∧ ∀ i, bt F i = true → bt F' i = true
def mr_Be (bo : Prop) (cl : Nat → Int32) (M F : Int32) : Prop := mr_D cl M F ∧ ∀ M' F', mr_Cz bo cl M' F' → mr_Le M F M' F'
def mr_No (bo : Prop) (cl : Nat → Int32) : Prop := ∀ M F, ¬ mr_Cz bo cl M F
theorem mr_oA_W (cl : Nat → Int32) (M F : Int32) (c : Nat) : mr_W (mr_oA cl M F c) := mr_W_and (mr_W_and (mr_nc_W cl c))
theorem mr_oA_bt {cl : Nat → Int32} {M F : Int32} {c i : Nat} : bt (mr_oA cl M F c) i = true ↔ bt (mr_nc cl c) i = true ∧ bt M i = false ∧ bt F i = false := by
  unfold mr_oA
  rw [mr_andn (mr_W_and (mr_nc_W cl c)), mr_andn (mr_nc_W cl c), and_assoc]
theorem mr_O_W (cl : Nat → Int32) (M F : Int32) (a b : Nat) : mr_W (mr_O cl M F a b) := by
  unfold mr_O
  split
  · exact mr_oA_W _ _ _ _
  · exact mr_W_and (mr_oA_W _ _ _ _)
/-- a cell that a rule may decide -/
theorem mr_O_op {cl : Nat → Int32} {M F : Int32} {a b i : Nat} (h : bt (mr_O cl M F a b) i = true) : bt (mr_cov cl) i = true ∧ bt M i = false ∧ bt F i = false := by
  unfold mr_O at h
  split at h
  · have := mr_oA_bt.mp h
    exact ⟨(mr_nc_bt.mp this.1).2, this.2⟩
  · have := mr_oA_bt.mp ((mr_andn (mr_oA_W _ _ _ _)).mp h).1
    exact ⟨(mr_nc_bt.mp this.1).2, this.2⟩
theorem mr_and0 {x y : Int32} (hx : mr_W x) : x &&& (y ^^^ (-1)) = 0 ↔ ∀ i, bt x i = true → bt y i = true := by
  constructor
  · intro h i hi
    refine Classical.byContradiction fun e => ?_
    have := (mr_andn (y := y) hx).mpr ⟨hi, Bool.eq_false_iff.mpr e⟩
    rw [h, b_0] at this
    exact absurd this (by decide)
  · intro h
    refine mr_eq0 (mr_W_and hx) fun i _ => Bool.eq_false_iff.mpr fun z => ?_
    have := (mr_andn hx).mp z
    rw [h i this.1] at this
    exact absurd this.2 (by decide)
theorem mr_fof {b : Bool} (h : ¬ b = true) : b = false := Bool.eq_false_iff.mpr h
theorem mr_oA_up {cl : Nat → Int32} {M F M' F' : Int32} (hL : mr_Le M F M' F') {c i : Nat} : bt (mr_oA cl M' F' c) i = true ↔ bt (mr_oA cl M F c) i = true ∧ bt M' i = false ∧ bt F' i = false := by
  rw [mr_oA_bt, mr_oA_bt]
  constructor
  · rintro ⟨a, b, c⟩
    refine ⟨⟨a, mr_fof fun z => ?_, mr_fof fun z => ?_⟩, b, c⟩
    · rw [hL.1 i z] at b; exact absurd b (by decide)
    · rw [hL.2 i z] at c; exact absurd c (by decide)
  · rintro ⟨⟨a, _, _⟩, b, c⟩
    exact ⟨a, b, c⟩
theorem mr_lf_up {cl : Nat → Int32} {M F M' F' : Int32} (hL : mr_Le M F M' F') (hD : mr_D cl M' F') (c : Nat) : mr_lf cl M' c = mr_lf cl M c - (mr_pc (mr_oA cl M F c &&& M') : Int) := by
  have h : mr_pc (mr_nb c &&& M') = mr_pc (mr_nb c &&& M) + mr_pc (mr_oA cl M F c &&& M') := by
    refine mr_ct_or 20 (fun i _ => ?_) (fun i _ a b => ?_)
    · rw [Bool.eq_iff_iff, Bool.or_eq_true, b_and, b_and, b_and, Bool.and_eq_true, Bool.and_eq_true, Bool.and_eq_true, mr_oA_bt]
      constructor
      · rintro ⟨a, b⟩
        by_cases e : bt M i = true
        · exact Or.inl ⟨a, e⟩
        · refine Or.inr ⟨⟨mr_nc_bt.mpr ⟨a, hD.2.2.1 i b⟩, mr_fof e, mr_fof fun z => hD.2.2.2 i b (hL.2 i z)⟩, b⟩
      · rintro (⟨a, b⟩ | ⟨⟨a, _, _⟩, b⟩)
        · exact ⟨a, hL.1 i b⟩
        · exact ⟨(mr_nc_bt.mp a).1, b⟩
    · rw [b_and, Bool.and_eq_true] at a b
      have := mr_oA_bt.mp b.1
      rw [this.2.1] at a
      exact absurd a.2 (by decide)
  unfold mr_lf
  rw [h]
  omega
theorem mr_O_up {cl : Nat → Int32} {M F M' F' : Int32} (hL : mr_Le M F M' F') {a b i : Nat} (hA : mr_A cl M F a b) : bt (mr_O cl M' F' a b) i = true ↔ bt (mr_O cl M F a b) i = true ∧ bt M' i = false ∧ bt F' i = false := by
  unfold mr_O
  by_cases e : a = b
  · rw [if_pos e, if_pos e]; exact mr_oA_up hL
  · rw [if_neg e, if_neg e, mr_andn (mr_oA_W _ _ _ _), mr_andn (mr_oA_W _ _ _ _), mr_oA_up hL]
    constructor
    · rintro ⟨⟨x, y⟩, z⟩
      refine ⟨⟨x, mr_fof fun q => ?_⟩, y⟩
      rw [(mr_oA_up hL).mpr ⟨q, y⟩] at z
      exact absurd z (by decide)
    · rintro ⟨⟨x, z⟩, y⟩
      refine ⟨⟨x, y⟩, mr_fof fun q => ?_⟩
      rw [((mr_oA_up hL).mp q).1] at z
      exact absurd z (by decide)
theorem mr_A_up {cl : Nat → Int32} {M F M' F' : Int32} (hL : mr_Le M F M' F') {a b : Nat} (hA : mr_A cl M F a b) : mr_A cl M' F' a b := by
  obtain ⟨h1, h2, h3, h4, h5⟩ := hA
  refine ⟨h1, h2, h3, h4, fun e => (mr_and0 (mr_oA_W _ _ _ _)).mpr fun i hi => ?_⟩
  have := (mr_and0 (mr_oA_W _ _ _ _)).mp (h5 e)
  have q := (mr_oA_up hL).mp hi
  exact (mr_oA_up hL).mpr ⟨this i q.1, q.2⟩
theorem mr_m_up {cl : Nat → Int32} {M F M' F' : Int32} (hL : mr_Le M F M' F') (hD : mr_D cl M' F') {a b : Nat} (hA : mr_A cl M F a b) : mr_m cl M' a b = mr_m cl M a b - (mr_pc (mr_O cl M F a b &&& M') : Int) := by
  unfold mr_m mr_O
  by_cases e : a = b
  · rw [if_pos e, if_pos e, if_pos e]; exact mr_lf_up hL hD a
  · rw [if_neg e, if_neg e, if_neg e, mr_lf_up hL hD a, mr_lf_up hL hD b]
    have hs := (mr_and0 (mr_oA_W _ _ _ _)).mp (hA.2.2.2.2 e)
    have h : mr_pc (mr_oA cl M F b &&& M') = mr_pc (mr_oA cl M F a &&& M') + mr_pc ((mr_oA cl M F b &&& (mr_oA cl M F a ^^^ (-1))) &&& M') := by
      refine mr_ct_or 20 (fun i _ => ?_) (fun i _ x y => ?_)
      · rw [Bool.eq_iff_iff, Bool.or_eq_true, b_and _ M', b_and _ M', b_and _ M', Bool.and_eq_true, Bool.and_eq_true, Bool.and_eq_true, mr_andn (mr_oA_W _ _ _ _)]
        constructor
        · rintro ⟨x, y⟩
          by_cases q : bt (mr_oA cl M F a) i = true
          · exact Or.inl ⟨q, y⟩
          · exact Or.inr ⟨⟨x, mr_fof q⟩, y⟩
        · rintro (⟨x, y⟩ | ⟨⟨x, _⟩, y⟩)
          · exact ⟨hs i x, y⟩
          · exact ⟨x, y⟩
      · rw [b_and _ M', Bool.and_eq_true] at x y
        rw [mr_andn (mr_oA_W _ _ _ _), x.1] at y
        exact absurd y.1.2 (by decide)
    rw [h]
    omega
theorem mr_O_cnt {cl : Nat → Int32} {M F M' F' : Int32} (hL : mr_Le M F M' F') (hD : mr_D cl M' F') {a b : Nat} (hA : mr_A cl M F a b) : mr_pc (mr_O cl M F a b) = mr_pc (mr_O cl M F a b &&& M') + mr_pc (mr_O cl M F a b &&& F') + mr_pc (mr_O cl M' F' a b) := by
  have h1 := mr_pc_split (mr_O cl M F a b) M'
  have h2 := mr_pc_split (mr_O cl M F a b &&& (M' ^^^ (-1))) F'
  have h3 : mr_pc ((mr_O cl M F a b &&& (M' ^^^ (-1))) &&& F') = mr_pc (mr_O cl M F a b &&& F') := mr_ct_congr fun i _ => by
    rw [Bool.eq_iff_iff, b_and _ F', b_and _ F', Bool.and_eq_true, Bool.and_eq_true, mr_andn (mr_O_W _ _ _ _ _)]
    exact ⟨fun z => ⟨z.1.1, z.2⟩, fun z => ⟨⟨z.1, mr_fof fun q => hD.2.2.2 i q z.2⟩, z.2⟩⟩
  have h4 : mr_pc ((mr_O cl M F a b &&& (M' ^^^ (-1))) &&& (F' ^^^ (-1))) = mr_pc (mr_O cl M' F' a b) := mr_ct_congr fun i _ => by
    rw [Bool.eq_iff_iff, mr_andn (mr_W_and (mr_O_W _ _ _ _ _)), mr_andn (mr_O_W _ _ _ _ _), mr_O_up hL hA, and_assoc]
  omega
theorem mr_pc_none {x y : Int32} (hx : mr_W x) (h : mr_pc (x &&& y) = 0) {i : Nat} (hi : bt x i = true) : bt y i = false := by
  have := mr_ct_0 20 h i (mr_W_lt hx hi)
  rw [b_and, hi] at this
  exact this
theorem mr_key {bo : Prop} {cl : Nat → Int32} {M F M' F' : Int32} (hC : mr_Cz bo cl M' F') (hL : mr_Le M F M' F') {a b : Nat} (hb : a = b ∨ bo) (hA : mr_A cl M F a b) :
    0 ≤ mr_m cl M a b ∧ mr_m cl M a b ≤ (mr_pc (mr_O cl M F a b) : Int) ∧ (mr_m cl M a b = 0 → ∀ i, bt (mr_O cl M F a b) i = true → bt F' i = true) ∧
    (mr_m cl M a b = (mr_pc (mr_O cl M F a b) : Int) → ∀ i, bt (mr_O cl M F a b) i = true → bt M' i = true) := by
  obtain ⟨r1, r2, r3⟩ := hC.2 a b hb (mr_A_up hL hA)
  have hm := mr_m_up hL hC.1 hA
  have hc := mr_O_cnt hL hC.1 hA
  have hw := mr_O_W cl M F a b
  refine ⟨by omega, by omega, fun e i hi => ?_, fun e i hi => ?_⟩
  · have e0 := r3 (Or.inl (by omega))
    have x0 : mr_pc (mr_O cl M F a b &&& M') = 0 := by omega
    refine Classical.byContradiction fun z => ?_
    have := (mr_O_up (cl := cl) hL hA).mpr ⟨hi, mr_pc_none hw x0 hi, mr_fof z⟩
    rw [e0, b_0] at this
    exact absurd this (by decide)
  · have y0 : mr_pc (mr_O cl M F a b &&& F') = 0 := by omega
    have e0 := r3 (Or.inr (by omega))
    refine Classical.byContradiction fun z => ?_
    have := (mr_O_up (cl := cl) hL hA).mpr ⟨hi, mr_fof z, mr_pc_none hw y0 hi⟩
    rw [e0, b_0] at this
    exact absurd this (by decide)
theorem mr_Be_no {bo : Prop} {cl : Nat → Int32} {M F : Int32} (H : mr_Be bo cl M F) {a b : Nat} (hb : a = b ∨ bo) (hA : mr_A cl M F a b) (h : mr_m cl M a b < 0 ∨ (mr_pc (mr_O cl M F a b) : Int) < mr_m cl M a b) : mr_No bo cl := by
  intro M' F' hC
  have := mr_key hC (H.2 M' F' hC) hb hA
  omega
theorem mr_or_sub {x y z : Int32} (h1 : ∀ i, bt x i = true → bt z i = true) (h2 : ∀ i, bt y i = true → bt z i = true) : ∀ i, bt (x ||| y) i = true → bt z i = true := by
  intro i h
  rw [b_or, Bool.or_eq_true] at h
  exact h.elim (h1 i) (h2 i)
theorem mr_Be_F {bo : Prop} {cl : Nat → Int32} {M F : Int32} (H : mr_Be bo cl M F) {a b : Nat} (hb : a = b ∨ bo) (hA : mr_A cl M F a b) (h : mr_m cl M a b = 0) : mr_Be bo cl M (F ||| mr_O cl M F a b) := by
  obtain ⟨⟨d1, d2, d3, d4⟩, h2⟩ := H
  refine ⟨⟨d1, mr_W_or d2 (mr_O_W _ _ _ _ _), d3, fun i x y => ?_⟩, fun M' F' hC => ?_⟩
  · rw [b_or, Bool.or_eq_true] at y
    rcases y with y | y
    · exact d4 i x y
    · rw [(mr_O_op y).2.1] at x; exact absurd x (by decide)
  · have hL := h2 M' F' hC
    exact ⟨hL.1, mr_or_sub hL.2 ((mr_key hC hL hb hA).2.2.1 h)⟩
theorem mr_Be_M {bo : Prop} {cl : Nat → Int32} {M F : Int32} (H : mr_Be bo cl M F) {a b : Nat} (hb : a = b ∨ bo) (hA : mr_A cl M F a b) (h : mr_m cl M a b = (mr_pc (mr_O cl M F a b) : Int)) : mr_Be bo cl (M ||| mr_O cl M F a b) F := by
  obtain ⟨⟨d1, d2, d3, d4⟩, h2⟩ := H
  refine ⟨⟨mr_W_or d1 (mr_O_W _ _ _ _ _), d2, mr_or_sub d3 (fun i z => (mr_O_op z).1), fun i x y => ?_⟩, fun M' F' hC => ?_⟩
  · rw [b_or, Bool.or_eq_true] at x
    rcases x with x | x
    · exact d4 i x y
    · rw [(mr_O_op x).2.2] at y; exact absurd y (by decide)
  · have hL := h2 M' F' hC
    exact ⟨mr_or_sub hL.1 ((mr_key hC hL hb hA).2.2.2 h), hL.2⟩
theorem mr_Be_0 (bo : Prop) (cl : Nat → Int32) : mr_Be bo cl 0 0 := by
  have z : ∀ i, bt 0 i = true → False := fun i h => by rw [b_0] at h; exact absurd h (by decide)
  exact ⟨⟨mr_W0, mr_W0, fun i h => (z i h).elim, fun i h => (z i h).elim⟩, fun M' F' _ => ⟨fun i h => (z i h).elim, fun i h => (z i h).elim⟩⟩
/-- the closed state that both come to is one -/
theorem mr_Cz_u {bo : Prop} {cl : Nat → Int32} {M F M' F' : Int32} (h1 : mr_Cz bo cl M F) (h2 : mr_Be bo cl M F) (h3 : mr_Cz bo cl M' F') (h4 : mr_Be bo cl M' F') : M' = M ∧ F' = F := by
  have a := h2.2 M' F' h3
  have b := h4.2 M F h1
  refine ⟨mr_W_ext h3.1.1 h1.1.1 fun i _ => ?_, mr_W_ext h3.1.2.1 h1.1.2.1 fun i _ => ?_⟩
  · rw [Bool.eq_iff_iff]; exact ⟨b.1 i, a.1 i⟩
  · rw [Bool.eq_iff_iff]; exact ⟨b.2 i, a.2 i⟩
/-- cells decided -/
def mr_dc (M F : Int32) : Nat := mr_pc (M ||| F)
theorem mr_dc_le {M F M' F' : Int32} (h : mr_Le M F M' F') : mr_dc M F ≤ mr_dc M' F' := mr_pc_sub fun i _ e => by
  rw [b_or, Bool.or_eq_true] at e ⊢
  exact e.elim (fun z => Or.inl (h.1 i z)) (fun z => Or.inr (h.2 i z))
theorem mr_dc_lt {M F M' F' : Int32} (h : mr_Le M F M' F') {i : Nat} (hi : i < 20) (h1 : bt M i = false) (h2 : bt F i = false) (h3 : bt M' i = true ∨ bt F' i = true) : mr_dc M F < mr_dc M' F' := by
  refine mr_ct_lt (j := i) 20 (fun j _ e => ?_) hi ?_ ?_
  · rw [b_or, Bool.or_eq_true] at e ⊢
    exact e.elim (fun z => Or.inl (h.1 j z)) (fun z => Or.inr (h.2 j z))
  · rw [b_or, h1, h2]; rfl
  · rw [b_or, Bool.or_eq_true]; exact h3
/-- no more cells decided: nothing changed -/
theorem mr_dc_eq {cl : Nat → Int32} {M F M' F' : Int32} (h1 : mr_D cl M F) (h2 : mr_D cl M' F') (h : mr_Le M F M' F') (hd : mr_dc M' F' ≤ mr_dc M F) : M' = M ∧ F' = F := by
  have key : ∀ i, i < 20 → (bt M' i = true ∨ bt F' i = true) → bt M i = true ∨ bt F i = true := by
    intro i hi h3
    refine Classical.byContradiction fun z => ?_
    have := mr_dc_lt h hi (mr_fof fun q => z (Or.inl q)) (mr_fof fun q => z (Or.inr q)) h3
    omega
  refine ⟨mr_W_ext h2.1 h1.1 fun i hi => ?_, mr_W_ext h2.2.1 h1.2.1 fun i hi => ?_⟩
  · rw [Bool.eq_iff_iff]
    refine ⟨fun z => ?_, h.1 i⟩
    rcases key i hi (Or.inl z) with q | q
    · exact q
    · exact (h2.2.2.2 i z (h.2 i q)).elim
  · rw [Bool.eq_iff_iff]
    refine ⟨fun z => ?_, h.2 i⟩
    rcases key i hi (Or.inr z) with q | q
    · exact (h2.2.2.2 i (h.1 i q) z).elim
    · exact q
theorem mr_Le_F (M F O : Int32) : mr_Le M F M (F ||| O) := ⟨fun _ h => h, fun i h => by rw [b_or, h]; rfl⟩
theorem mr_Le_M (M F O : Int32) : mr_Le M F (M ||| O) F := ⟨fun i h => by rw [b_or, h]; rfl, fun _ h => h⟩
theorem mr_Le_r (M F : Int32) : mr_Le M F M F := ⟨fun _ h => h, fun _ h => h⟩
theorem mr_Le_t {M F M' F' M2 F2 : Int32} (h1 : mr_Le M F M' F') (h2 : mr_Le M' F' M2 F2) : mr_Le M F M2 F2 := ⟨fun i h => h2.1 i (h1.1 i h), fun i h => h2.2 i (h1.2 i h)⟩
/-- the clues, with what is decided -/
def mr_cz (cl : Nat → Int32) (M F : Int32) : Prop := ∀ c, c < 20 → cl c ≠ -1 → 0 ≤ mr_lf cl M c ∧ mr_lf cl M c ≤ (mr_pc (mr_oA cl M F c) : Int)
theorem mr_A1 {cl : Nat → Int32} {M F : Int32} {c : Nat} (hc : c < 20) (hs : cl c ≠ -1) : mr_A cl M F c c := ⟨hc, hc, hs, hs, fun h => absurd rfl h⟩
theorem mr_O1 (cl : Nat → Int32) (M F : Int32) (c : Nat) : mr_O cl M F c c = mr_oA cl M F c := if_pos rfl
theorem mr_m1e (cl : Nat → Int32) (M : Int32) (c : Nat) : mr_m cl M c c = mr_lf cl M c := if_pos rfl
theorem mr_cz_no {bo : Prop} {cl : Nat → Int32} {M F : Int32} (H : mr_Be bo cl M F) (h : ¬ mr_cz cl M F) : mr_No bo cl := by
  unfold mr_cz at h
  obtain ⟨c, hc⟩ := Classical.not_forall.mp h
  have c1 : c < 20 := Classical.byContradiction fun e => hc fun q => absurd q e
  have c2 : cl c ≠ -1 := fun e => hc fun _ q => absurd e q
  have c4 : ¬ (0 ≤ mr_lf cl M c ∧ mr_lf cl M c ≤ (mr_pc (mr_oA cl M F c) : Int)) := fun e => hc fun _ _ => e
  refine mr_Be_no H (Or.inl rfl) (mr_A1 c1 c2) ?_
  rw [mr_O1, mr_m1e]
  omega
/-! ints -/
theorem mr_i0 {x : Int32} {z : Int} (h : x.toInt = z) : x < 0 ↔ z < 0 := by
  rw [Int32.lt_iff_toInt_lt, h, show (0 : Int32).toInt = 0 from by decide]
theorem mr_ie0 {x : Int32} {z : Int} (h : x.toInt = z) : x = 0 ↔ z = 0 := by
  rw [← Int32.toInt_inj, h, show (0 : Int32).toInt = 0 from by decide]
theorem mr_ile {x : Int32} {z : Int} (h : x.toInt = z) {n : Nat} (hn : n < 2 ^ 31) : x ≤ nI n ↔ z ≤ (n : Int) := by
  rw [Int32.le_iff_toInt_le, h, nI_toInt hn]
theorem mr_ieq {x : Int32} {z : Int} (h : x.toInt = z) {n : Nat} (hn : n < 2 ^ 31) : x = nI n ↔ z = (n : Int) := by
  rw [← Int32.toInt_inj, h, nI_toInt hn]
theorem mr_isub {x y : Int32} {a b : Int} (h1 : x.toInt = a) (h2 : y.toInt = b) (ha : -100 ≤ a ∧ a ≤ 100) (hb : -100 ≤ b ∧ b ≤ 100) : (x - y).toInt = a - b := by
  rw [Int32.toInt_sub, h1, h2]
  exact Int.bmod_eq_of_le (by omega) (by omega)
theorem mr_lf_i {cl : Nat → Int32} (hok : mr_ok cl) {c : Nat} (hc : c < 20) (hs : cl c ≠ -1) (M : Int32) : (cl c - nI (mr_pc (mr_nb c &&& M))).toInt = mr_lf cl M c := by
  obtain ⟨e, h⟩ := mr_kl_e hok hc hs
  have hp := mr_pc_le (mr_nb c &&& M)
  rw [e, pk_sub_toInt (by omega) (by omega)]
  rfl
theorem mr_lf_b {cl : Nat → Int32} (hok : mr_ok cl) {c : Nat} (hc : c < 20) (hs : cl c ≠ -1) (M : Int32) : -100 ≤ mr_lf cl M c ∧ mr_lf cl M c ≤ 100 := by
  obtain ⟨e, h⟩ := mr_kl_e hok hc hs
  have hp := mr_pc_le (mr_nb c &&& M)
  unfold mr_lf
  omega
end
section
/-! the component: its rules -/
section MX
variable {w gc rs ce mi : Int32} {cl gs wy ww su sn ch ca sa : Nat → Int32}
theorem mx_oA {post : Int32 → Prop} {M F ck : Int32} {c : Nat} (hc : c < 20) (h : post (mr_oA cl M F c)) : wpX_openAround post (w, mr_cov cl, gc, rs, ce, mi, M, F, ck, cl, mr_nb, gs, wy, ww, su, sn, ch, ca, sa) (nI c) := by
  refine And.intro (pk_in c 20 hc) ?_
  rw [nI_clamp (by omega)]
  exact h
theorem mx_lf {post : Int32 → Prop} {M F ck : Int32} {c : Nat} (hc : c < 20) (h : post (cl c - nI (mr_pc (mr_nb c &&& M)))) : wpX_leftOf post (w, mr_cov cl, gc, rs, ce, mi, M, F, ck, cl, mr_nb, gs, wy, ww, su, sn, ch, ca, sa) (nI c) := by
  refine And.intro (pk_in c 20 hc) (And.intro (pk_in c 20 hc) ?_)
  rw [nI_clamp (by omega)]
  exact mx_bits (mr_W_and (mr_nb_W c)) h
theorem mx_check_l {post : SX → Prop} (hok : mr_ok cl) {M F f0 : Int32} (h0 : f0 = 0 → mr_cz cl M F → post (w, mr_cov cl, gc, rs, ce, mi, M, F, 0, cl, mr_nb, gs, wy, ww, su, sn, ch, ca, sa))
    (h1 : (f0 ≠ 0 ∨ ¬ mr_cz cl M F) → post (w, mr_cov cl, gc, rs, ce, mi, M, F, 1, cl, mr_nb, gs, wy, ww, su, sn, ch, ca, sa)) : ∀ (d i : Nat) (f : Int32), i + d = 20 →
    ((f = 0 ∧ f0 = 0 ∧ ∀ c, c < i → cl c ≠ -1 → 0 ≤ mr_lf cl M c ∧ mr_lf cl M c ≤ (mr_pc (mr_oA cl M F c) : Int)) ∨ (f = 1 ∧ (f0 ≠ 0 ∨ ¬ mr_cz cl M F))) →
    wX_checkClues_2 post w (mr_cov cl) gc rs ce mi M F cl mr_nb gs wy ww su sn ch ca sa (d + 1) (nI i) f := by
  intro d
  induction d with
  | zero =>
    intro i f hi H
    have : i = 20 := by omega
    subst this
    rcases H with ⟨rfl, e, H⟩ | ⟨rfl, H⟩
    · exact pk_le 20 20 (fun _ => h0 e H) (fun h => absurd h (by omega))
    · exact pk_le 20 20 (fun _ => h1 H) (fun h => absurd h (by omega))
  | succ d ih =>
    intro i f hi H
    have hk : (nI i).toNatClampNeg = i := nI_clamp (by omega)
    have hp := mr_pc_le (mr_oA cl M F i)
    refine pk_le 20 i (fun h => absurd h (by omega)) (fun _ => And.intro (pk_in i 20 (by omega)) (br_c (fun e => ?_) (fun e => ?_)))
    · rw [hk] at e
      refine nm_r (nI_1 i) (ih (i + 1) f (by omega) ?_)
      rcases H with ⟨rfl, q, H⟩ | H
      · refine Or.inl ⟨rfl, q, fun c hc => ?_⟩
        by_cases z : c = i
        · subst z; exact fun y => absurd e y
        · exact H c (by omega)
      · exact Or.inr H
    · rw [hk] at e
      have hl := mr_lf_i hok (c := i) (by omega) e M
      refine mx_lf (by omega) ?_
      rcases H with ⟨rfl, q, H⟩ | ⟨rfl, H⟩
      · refine br_t rfl (ek_if (mr_i0 hl) (fun z => nm_r (nI_1 i) (ih (i + 1) 1 (by omega) (Or.inr ⟨rfl, Or.inr fun y => ?_⟩))) (fun z => mx_oA (by omega) (mx_bits (mr_oA_W _ _ _ _) (ek_if (mr_ile hl (by omega)) (fun y => nm_r (nI_1 i) (ih (i + 1) 0 (by omega) (Or.inl ⟨rfl, q, fun c hc => ?_⟩))) (fun y => nm_r (nI_1 i) (ih (i + 1) 1 (by omega) (Or.inr ⟨rfl, Or.inr fun x => ?_⟩)))))))
        · have := (y i (by omega) e).1; omega
        · by_cases t : c = i
          · subst t; exact fun _ => ⟨by omega, y⟩
          · exact H c (by omega)
        · have := (x i (by omega) e).2; omega
      · exact br_f (by decide) (nm_r (nI_1 i) (ih (i + 1) 1 (by omega) (Or.inr ⟨rfl, H⟩)))
theorem mx_check {post : SX → Prop} (hok : mr_ok cl) {M F f0 : Int32} (hf : f0 = 0 ∨ f0 = 1) (h0 : f0 = 0 → mr_cz cl M F → post (w, mr_cov cl, gc, rs, ce, mi, M, F, 0, cl, mr_nb, gs, wy, ww, su, sn, ch, ca, sa))
    (h1 : (f0 ≠ 0 ∨ ¬ mr_cz cl M F) → post (w, mr_cov cl, gc, rs, ce, mi, M, F, 1, cl, mr_nb, gs, wy, ww, su, sn, ch, ca, sa)) :
    wpX_checkClues post (w, mr_cov cl, gc, rs, ce, mi, M, F, f0, cl, mr_nb, gs, wy, ww, su, sn, ch, ca, sa) := by
  refine Exists.intro 21 (mx_check_l hok h0 h1 20 0 f0 rfl ?_)
  rcases hf with e | e
  · exact Or.inl ⟨e, e, fun c h => absurd h (Nat.not_lt_zero c)⟩
  · exact Or.inr ⟨e, Or.inl (by rw [e]; decide)⟩
theorem mx_decide {post : Int32 → SX → Prop} {M F ck O n : Int32} (hO : mr_W O) (h1 : O ≠ 0 → n = 0 → post 1 (w, mr_cov cl, gc, rs, ce, mi, M, F ||| O, ck, cl, mr_nb, gs, wy, ww, su, sn, ch, ca, sa))
    (h2 : O ≠ 0 → n = nI (mr_pc O) → post 1 (w, mr_cov cl, gc, rs, ce, mi, M ||| O, F, ck, cl, mr_nb, gs, wy, ww, su, sn, ch, ca, sa))
    (h3 : (O = 0 ∨ (n ≠ 0 ∧ n ≠ nI (mr_pc O))) → post 0 (w, mr_cov cl, gc, rs, ce, mi, M, F, ck, cl, mr_nb, gs, wy, ww, su, sn, ch, ca, sa)) :
    wpX_decideBy post (w, mr_cov cl, gc, rs, ce, mi, M, F, ck, cl, mr_nb, gs, wy, ww, su, sn, ch, ca, sa) O n := by
  unfold wpX_decideBy
  by_cases e : O = 0
  · refine br_t e ?_
    unfold wX_decideBy_12 wX_decideBy_13
    refine br_t e ?_
    unfold wX_decideBy_31 wX_decideBy_32
    refine br_t rfl ?_
    unfold wX_decideBy_52
    refine br_t rfl ?_
    unfold wX_decideBy_74
    exact br_t rfl (br_t rfl (h3 (Or.inl e)))
  · refine br_f e ?_
    have hp : mr_pc O ≠ 0 := fun z => e (mr_pc_zero hO z)
    have hl := mr_pc_le O
    by_cases z : n = 0
    · refine br_t z ?_
      unfold wX_decideBy_13
      refine br_f e (mx_bits hO (br_f (fun y => ?_) ?_))
      · rw [z, ← nI_0, nI_eq (by omega) (by omega)] at y
        exact hp y.symm
      · unfold wX_decideBy_31 wX_decideBy_32
        refine br_f (by decide) ?_
        unfold wX_decideBy_52
        refine br_t rfl ?_
        unfold wX_decideBy_74
        exact br_f (by decide) (h1 e z)
    · refine br_f z ?_
      unfold wX_decideBy_12 wX_decideBy_13
      refine br_f e (mx_bits hO (br_c (fun y => ?_) (fun y => ?_)))
      · unfold wX_decideBy_32
        refine br_t rfl ?_
        unfold wX_decideBy_52
        refine br_f (by decide) ?_
        unfold wX_decideBy_74
        exact br_t rfl (br_f (by decide) (h2 e y))
      · unfold wX_decideBy_31 wX_decideBy_32
        refine br_t rfl ?_
        unfold wX_decideBy_52
        refine br_t rfl ?_
        unfold wX_decideBy_74
        exact br_t rfl (br_t rfl (h3 (Or.inr ⟨z, y⟩)))
theorem mx_n01 {r : Int32} (h : r = 0 ∨ r = 1) : narrow .boolean (.int r) = .int r := by
  rcases h with e | e
  · rw [e]; exact narrow_b0
  · rw [e]; exact narrow_b1
/-- a rule used: one of three -/
theorem mr_use {bo : Prop} {M F : Int32} {a b : Nat} (H : mr_Be bo cl M F) (hb : a = b ∨ bo) (hA : mr_A cl M F a b) :
    (mr_O cl M F a b ≠ 0 → mr_m cl M a b = 0 → mr_Be bo cl M (F ||| mr_O cl M F a b) ∧ mr_dc M F < mr_dc M (F ||| mr_O cl M F a b)) ∧
    (mr_O cl M F a b ≠ 0 → mr_m cl M a b = (mr_pc (mr_O cl M F a b) : Int) → mr_Be bo cl (M ||| mr_O cl M F a b) F ∧ mr_dc M F < mr_dc (M ||| mr_O cl M F a b) F) := by
  refine ⟨fun e z => ⟨mr_Be_F H hb hA z, ?_⟩, fun e z => ⟨mr_Be_M H hb hA z, ?_⟩⟩
  · obtain ⟨i, hi, h⟩ := mr_ex (mr_O_W _ _ _ _ _) e
    exact mr_dc_lt (mr_Le_F _ _ _) hi (mr_O_op h).2.1 (mr_O_op h).2.2 (Or.inr (by rw [b_or, h, Bool.or_true]))
  · obtain ⟨i, hi, h⟩ := mr_ex (mr_O_W _ _ _ _ _) e
    exact mr_dc_lt (mr_Le_M _ _ _) hi (mr_O_op h).2.1 (mr_O_op h).2.2 (Or.inl (by rw [b_or, h, Bool.or_true]))
theorem mx_r1c {bo : Prop} {post : Int32 → SX → Prop} (hc : ∀ r M F : Int32, (r = 0 ∨ r = 1) → mr_No bo cl → post r (w, mr_cov cl, gc, rs, ce, mi, M, F, 1, cl, mr_nb, gs, wy, ww, su, sn, ch, ca, sa)) (hn : mr_No bo cl)
    (n i : Nat) (hi : i ≤ 20) (r M F : Int32) (hr : r = 0 ∨ r = 1) : wX_ruleOne_4 post (n + 1) r (nI i) w (mr_cov cl) gc rs ce mi M F 1 cl mr_nb gs wy ww su sn ch ca sa :=
  pk_le 20 i (fun _ => And.intro (mx_n01 hr) (hc r M F hr hn)) (fun _ => br_f (by decide) (And.intro (mx_n01 hr) (hc r M F hr hn)))
theorem mx_r1_l {bo : Prop} {post : Int32 → SX → Prop} (hok : mr_ok cl) {M0 F0 : Int32} (hc : ∀ r M F : Int32, (r = 0 ∨ r = 1) → mr_No bo cl → post r (w, mr_cov cl, gc, rs, ce, mi, M, F, 1, cl, mr_nb, gs, wy, ww, su, sn, ch, ca, sa))
    (h0 : (∀ c, c < 20 → cl c ≠ -1 → mr_R cl M0 F0 c c) → post 0 (w, mr_cov cl, gc, rs, ce, mi, M0, F0, 0, cl, mr_nb, gs, wy, ww, su, sn, ch, ca, sa))
    (h1 : ∀ M F, mr_Be bo cl M F → mr_cz cl M F → mr_dc M0 F0 < mr_dc M F → post 1 (w, mr_cov cl, gc, rs, ce, mi, M, F, 0, cl, mr_nb, gs, wy, ww, su, sn, ch, ca, sa)) :
    ∀ (d i : Nat) (r M F : Int32), i + d = 20 → mr_Be bo cl M F → mr_cz cl M F → ((r = 0 ∧ M = M0 ∧ F = F0 ∧ ∀ c, c < i → cl c ≠ -1 → mr_R cl M0 F0 c c) ∨ (r = 1 ∧ mr_dc M0 F0 < mr_dc M F)) →
    wX_ruleOne_4 post (d + 1) r (nI i) w (mr_cov cl) gc rs ce mi M F 0 cl mr_nb gs wy ww su sn ch ca sa := by
  intro d
  induction d with
  | zero =>
    intro i r M F hi HB HC H
    have : i = 20 := by omega
    subst this
    rcases H with ⟨rfl, rfl, rfl, H⟩ | ⟨rfl, H⟩
    · exact pk_le 20 20 (fun _ => And.intro narrow_b0 (h0 H)) (fun h => absurd h (by omega))
    · exact pk_le 20 20 (fun _ => And.intro narrow_b1 (h1 M F HB HC H)) (fun h => absurd h (by omega))
  | succ d ih =>
    intro i r M F hi HB HC H
    have hk : (nI i).toNatClampNeg = i := nI_clamp (by omega)
    have hr : r = 0 ∨ r = 1 := H.elim (fun z => Or.inl z.1) (fun z => Or.inr z.1)
    have hdc : mr_dc M0 F0 ≤ mr_dc M F := H.elim (fun z => by rw [z.2.1, z.2.2.1]; exact Nat.le_refl _) (fun z => Nat.le_of_lt z.2)
    refine pk_le 20 i (fun h => absurd h (by omega)) (fun _ => br_t rfl (And.intro (pk_in i 20 (by omega)) (br_c (fun e => ?_) (fun e => ?_))))
    · rw [hk] at e
      refine nm_r (nI_1 i) (ih (i + 1) r M F (by omega) HB HC ?_)
      rcases H with ⟨a, b, c, H⟩ | H
      · refine Or.inl ⟨a, b, c, fun c hc => ?_⟩
        by_cases z : c = i
        · subst z; exact fun y => absurd e y
        · exact H c (by omega)
      · exact Or.inr H
    · rw [hk] at e
      have hl := mr_lf_i hok (c := i) (by omega) e M
      have hp := mr_pc_le (mr_oA cl M F i)
      have A1 := mr_A1 (M := M) (F := F) (c := i) (by omega) e
      have U := mr_use HB (Or.inl rfl) A1
      rw [mr_O1, mr_m1e] at U
      have af : ∀ r' M' F', (r' = 0 ∨ r' = 1) → mr_Be bo cl M' F' → (mr_cz cl M' F' → wX_ruleOne_4 post (d + 1) r' (nI (i + 1)) w (mr_cov cl) gc rs ce mi M' F' 0 cl mr_nb gs wy ww su sn ch ca sa) →
          wX_ruleOne_55 post (wX_ruleOne_4 post (d + 1)) (nI i) r' w (mr_cov cl) gc rs ce mi M' F' 0 cl mr_nb gs wy ww su sn ch ca sa := by
        intro r' M' F' hr' HB' K
        unfold wX_ruleOne_55
        refine mx_check hok (Or.inl rfl) (fun _ z => nm_r (nI_1 i) (K z)) (fun z => nm_r (nI_1 i) (mx_r1c hc (mr_cz_no HB' ?_) d (i + 1) (by omega) r' M' F' hr'))
        exact z.resolve_left fun y => y rfl
      have a1 : ∀ M' F', mr_Be bo cl M' F' → mr_dc M F < mr_dc M' F' → wX_ruleOne_55 post (wX_ruleOne_4 post (d + 1)) (nI i) 1 w (mr_cov cl) gc rs ce mi M' F' 0 cl mr_nb gs wy ww su sn ch ca sa :=
        fun M' F' HB' hd => af 1 M' F' (Or.inr rfl) HB' fun z => ih (i + 1) 1 M' F' (by omega) HB' z (Or.inr ⟨rfl, by omega⟩)
      refine mx_oA (by omega) (mx_lf (by omega) (mx_decide (mr_oA_W _ _ _ _) (fun y z => ?_) (fun y z => ?_) (fun z => ?_)))
      · have q := U.1 y ((mr_ie0 hl).mp z)
        refine br_c (fun _ => br_f (by decide) ?_) (fun _ => ?_)
        · exact a1 _ _ q.1 q.2
        · exact a1 _ _ q.1 q.2
      · have q := U.2 y ((mr_ieq hl (by omega)).mp z)
        refine br_c (fun _ => br_f (by decide) ?_) (fun _ => ?_)
        · exact a1 _ _ q.1 q.2
        · exact a1 _ _ q.1 q.2
      · have hR : mr_R cl M F i i := by
          unfold mr_R
          rw [mr_O1, mr_m1e]
          refine ⟨(HC i (by omega) e).1, (HC i (by omega) e).2, fun y => ?_⟩
          rcases z with z | z
          · exact z
          · rcases y with y | y
            · exact absurd ((mr_ie0 hl).mpr y) z.1
            · exact absurd ((mr_ieq hl (by omega)).mpr y) z.2
        rcases H with ⟨rfl, rfl, rfl, H⟩ | ⟨rfl, H⟩
        · refine br_t rfl (br_t rfl (af 0 M F (Or.inl rfl) HB fun _ => ih (i + 1) 0 M F (by omega) HB HC (Or.inl ⟨rfl, rfl, rfl, fun c hc => ?_⟩)))
          by_cases t : c = i
          · subst t; exact fun _ => hR
          · exact H c (by omega)
        · refine br_f (by decide) (af 1 M F (Or.inr rfl) HB fun _ => ih (i + 1) 1 M F (by omega) HB HC (Or.inr ⟨rfl, H⟩))
theorem mx_ruleOne {bo : Prop} {post : Int32 → SX → Prop} (hok : mr_ok cl) {M0 F0 : Int32} (HB : mr_Be bo cl M0 F0) (HC : mr_cz cl M0 F0)
    (hc : ∀ r M F : Int32, (r = 0 ∨ r = 1) → mr_No bo cl → post r (w, mr_cov cl, gc, rs, ce, mi, M, F, 1, cl, mr_nb, gs, wy, ww, su, sn, ch, ca, sa))
    (h0 : (∀ c, c < 20 → cl c ≠ -1 → mr_R cl M0 F0 c c) → post 0 (w, mr_cov cl, gc, rs, ce, mi, M0, F0, 0, cl, mr_nb, gs, wy, ww, su, sn, ch, ca, sa))
    (h1 : ∀ M F, mr_Be bo cl M F → mr_cz cl M F → mr_dc M0 F0 < mr_dc M F → post 1 (w, mr_cov cl, gc, rs, ce, mi, M, F, 0, cl, mr_nb, gs, wy, ww, su, sn, ch, ca, sa)) :
    wpX_ruleOne post (w, mr_cov cl, gc, rs, ce, mi, M0, F0, 0, cl, mr_nb, gs, wy, ww, su, sn, ch, ca, sa) :=
  Exists.intro 21 (mx_r1_l hok hc h0 h1 20 0 0 M0 F0 rfl HB HC (Or.inl ⟨rfl, rfl, rfl, fun c h => absurd h (Nat.not_lt_zero c)⟩))
/-! rule two -/
theorem mx_r2For {bo : Prop} {post : Int32 → SX → Prop} (hok : mr_ok cl) (hbo : bo) {M F : Int32} {a b : Nat} (ha : a < 20) (hb : b < 20) (sa1 : cl a ≠ -1) (sb1 : cl b ≠ -1) (HB : mr_Be bo cl M F) (HC : mr_cz cl M F)
    (hc : ∀ r M F : Int32, (r = 0 ∨ r = 1) → mr_No bo cl → post r (w, mr_cov cl, gc, rs, ce, mi, M, F, 1, cl, mr_nb, gs, wy, ww, su, sn, ch, ca, sa))
    (h0 : (a ≠ b → mr_A cl M F a b → mr_R cl M F a b) → post 0 (w, mr_cov cl, gc, rs, ce, mi, M, F, 0, cl, mr_nb, gs, wy, ww, su, sn, ch, ca, sa))
    (h1 : ∀ M' F', mr_Be bo cl M' F' → mr_cz cl M' F' → mr_dc M F < mr_dc M' F' → post 1 (w, mr_cov cl, gc, rs, ce, mi, M', F', 0, cl, mr_nb, gs, wy, ww, su, sn, ch, ca, sa)) :
    wpX_ruleTwoFor post (w, mr_cov cl, gc, rs, ce, mi, M, F, 0, cl, mr_nb, gs, wy, ww, su, sn, ch, ca, sa) (nI a) (nI b) := by
  unfold wpX_ruleTwoFor
  refine mx_oA ha (mx_oA hb (nm_e (pk_eq a b (fun e => h0 fun z => absurd e z) (fun e => mx_oA hb (br_c (fun q => ?_) (fun q => h0 fun _ z => absurd (z.2.2.2.2 e) q))))))
  have hA : mr_A cl M F a b := ⟨ha, hb, sa1, sb1, fun _ => q⟩
  have eO : mr_O cl M F a b = mr_oA cl M F b &&& (mr_oA cl M F a ^^^ (-1)) := if_neg e
  have em : mr_m cl M a b = mr_lf cl M b - mr_lf cl M a := if_neg e
  have hl : ((cl b - nI (mr_pc (mr_nb b &&& M))) - (cl a - nI (mr_pc (mr_nb a &&& M)))).toInt = mr_m cl M a b := by
    rw [em]
    exact mr_isub (mr_lf_i hok hb sb1 M) (mr_lf_i hok ha sa1 M) (mr_lf_b hok hb sb1 M) (mr_lf_b hok ha sa1 M)
  have U := mr_use HB (Or.inr hbo) hA
  have hp := mr_pc_le (mr_O cl M F a b)
  have hW := mr_O_W cl M F a b
  refine mx_lf hb (mx_lf ha (nm_e (br_t rfl ?_)))
  rw [← eO]
  have no : mr_No bo cl → wX_ruleTwoFor_74 post (mr_O cl M F a b) ((cl b - nI (mr_pc (mr_nb b &&& M))) - (cl a - nI (mr_pc (mr_nb a &&& M)))) w (mr_cov cl) gc rs ce mi M F 0 cl mr_nb gs wy ww su sn ch ca sa := by
    intro hn
    unfold wX_ruleTwoFor_74 wX_ruleTwoFor_79
    refine And.intro narrow_b1 (And.intro (by decide) (br_f (by decide) ?_))
    unfold wX_ruleTwoFor_104 wX_ruleTwoFor_105
    exact mx_check hok (Or.inr rfl) (fun z => absurd z (by decide)) (fun _ => And.intro narrow_b0 (hc 0 M F (Or.inl rfl) hn))
  refine ek_if (mr_i0 hl) (fun z => no (mr_Be_no HB (Or.inr hbo) hA (Or.inl z))) (fun z => mx_bits hW (ek_if (mr_ile hl (by omega)) (fun y => ?_) (fun y => no (mr_Be_no HB (Or.inr hbo) hA (Or.inr (by omega))))))
  unfold wX_ruleTwoFor_79
  refine And.intro narrow_b0 (And.intro (by decide) (br_t rfl ?_))
  have a1 : ∀ M' F', mr_Be bo cl M' F' → mr_dc M F < mr_dc M' F' → wX_ruleTwoFor_105 post 1 w (mr_cov cl) gc rs ce mi M' F' 0 cl mr_nb gs wy ww su sn ch ca sa := by
    intro M' F' HB' hd
    unfold wX_ruleTwoFor_105
    exact mx_check hok (Or.inl rfl) (fun _ t => And.intro narrow_b1 (h1 M' F' HB' t hd)) (fun t => And.intro narrow_b1 (hc 1 M' F' (Or.inr rfl) (mr_cz_no HB' (t.resolve_left fun s => s rfl))))
  refine mx_decide hW (fun t s => br_f (by decide) ?_) (fun t s => br_f (by decide) ?_) (fun t => br_t rfl ?_)
  · have q := U.1 t ((mr_ie0 hl).mp s)
    exact a1 _ _ q.1 q.2
  · have q := U.2 t ((mr_ieq hl (by omega)).mp s)
    exact a1 _ _ q.1 q.2
  · have hR : mr_R cl M F a b := by
      refine ⟨by omega, y, fun s => ?_⟩
      rcases t with t | t
      · exact t
      · rcases s with s | s
        · exact absurd ((mr_ie0 hl).mpr s) t.1
        · exact absurd ((mr_ieq hl (by omega)).mpr s) t.2
    unfold wX_ruleTwoFor_104 wX_ruleTwoFor_105
    exact mx_check hok (Or.inl rfl) (fun _ _ => And.intro narrow_b0 (h0 fun _ _ => hR)) (fun s => absurd HC (s.resolve_left fun s => s rfl))
def mr_I2 (bo : Prop) (cl : Nat → Int32) (M0 F0 : Int32) (a b : Nat) (r M F ck : Int32) : Prop :=
  (ck = 1 ∧ mr_No bo cl ∧ (r = 0 ∨ r = 1)) ∨ (ck = 0 ∧ mr_Be bo cl M F ∧ mr_cz cl M F ∧ ((r = 0 ∧ M = M0 ∧ F = F0 ∧ ∀ a' b', (a' < a ∨ a' = a ∧ b' < b) → a' ≠ b' → mr_A cl M0 F0 a' b' → mr_R cl M0 F0 a' b') ∨ (r = 1 ∧ mr_dc M0 F0 < mr_dc M F)))
theorem mr_I2_next {bo : Prop} {M0 F0 : Int32} {a b : Nat} {r M F ck : Int32} (H : mr_I2 bo cl M0 F0 a b r M F ck) (hn : ck = 0 → M = M0 → F = F0 → a ≠ b → mr_A cl M0 F0 a b → mr_R cl M0 F0 a b) : mr_I2 bo cl M0 F0 a (b + 1) r M F ck := by
  rcases H with H | ⟨h1, h2, h3, h4⟩
  · exact Or.inl H
  · refine Or.inr ⟨h1, h2, h3, ?_⟩
    rcases h4 with ⟨r1, r2, r3, r4⟩ | h4
    · refine Or.inl ⟨r1, r2, r3, fun a' b' hh => ?_⟩
      by_cases q : a' = a ∧ b' = b
      · rw [q.1, q.2]; exact hn h1 r2 r3
      · exact r4 a' b' (by omega)
    · exact Or.inr h4
theorem mx_r2_12 {bo : Prop} {post : Int32 → SX → Prop} {J : Int32 → Int32 → Int32 → Int32 → Int32 → Int32 → Int32 → Int32 → Int32 → Int32 → Int32 → (Nat → Int32) → (Nat → Int32) → (Nat → Int32) → (Nat → Int32) → (Nat → Int32) → (Nat → Int32) → (Nat → Int32) → (Nat → Int32) → (Nat → Int32) → (Nat → Int32) → Prop}
    (hok : mr_ok cl) (hbo : bo) {M0 F0 : Int32} {a : Nat} (ha : a < 20) (hJ : ∀ r M F ck : Int32, mr_I2 bo cl M0 F0 (a + 1) 0 r M F ck → J r (nI (a + 1)) w (mr_cov cl) gc rs ce mi M F ck cl mr_nb gs wy ww su sn ch ca sa) :
    ∀ (d b : Nat) (r M F ck : Int32), b + d = 20 → mr_I2 bo cl M0 F0 a b r M F ck → wX_ruleTwo_12 post J (nI a) (d + 1) r (nI b) w (mr_cov cl) gc rs ce mi M F ck cl mr_nb gs wy ww su sn ch ca sa := by
  intro d
  induction d with
  | zero =>
    intro b r M F ck hb H
    have : b = 20 := by omega
    subst this
    refine pk_le 20 20 (fun _ => nm_r (nI_1 a) (hJ r M F ck ?_)) (fun h => absurd h (by omega))
    rcases H with H | ⟨h1, h2, h3, h4⟩
    · exact Or.inl H
    · refine Or.inr ⟨h1, h2, h3, ?_⟩
      rcases h4 with ⟨r1, r2, r3, r4⟩ | h4
      · exact Or.inl ⟨r1, r2, r3, fun a' b' hh hne hA => r4 a' b' (by have := hA.2.1; omega) hne hA⟩
      · exact Or.inr h4
  | succ d ih =>
    intro b r M F ck hb H
    have ka : (nI a).toNatClampNeg = a := nI_clamp (by omega)
    have kb : (nI b).toNatClampNeg = b := nI_clamp (by omega)
    refine pk_le 20 b (fun h => absurd h (by omega)) (fun _ => And.intro (pk_in a 20 ha) (br_c (fun e => ?_) (fun e => And.intro (pk_in b 20 (by omega)) (br_c (fun e2 => ?_) (fun e2 => br_c (fun e3 => ?_) (fun e3 => ?_))))))
    · rw [ka] at e
      exact nm_r (nI_1 b) (ih (b + 1) r M F ck (by omega) (mr_I2_next H fun _ _ _ _ z => absurd e z.2.2.1))
    · rw [kb] at e2
      exact nm_r (nI_1 b) (ih (b + 1) r M F ck (by omega) (mr_I2_next H fun _ _ _ _ z => absurd e2 z.2.2.2.1))
    · rw [ka] at e
      rw [kb] at e2
      rcases H with ⟨h1, _⟩ | ⟨h1, HB, HC, h4⟩
      · rw [h1] at e3; exact absurd e3 (by decide)
      subst h1
      have hdc : mr_dc M0 F0 ≤ mr_dc M F := h4.elim (fun z => by rw [z.2.1, z.2.2.1]; exact Nat.le_refl _) (fun z => Nat.le_of_lt z.2)
      refine mx_r2For hok hbo ha (by omega) e e2 HB HC (fun r' M' F' hr' hn => ?_) (fun hR => ?_) (fun M' F' HB' HC' hd => ?_)
      · have K : ∀ r'', (r'' = 0 ∨ r'' = 1) → wX_ruleTwo_12 post J (nI a) (d + 1) r'' (nI (b + 1)) w (mr_cov cl) gc rs ce mi M' F' 1 cl mr_nb gs wy ww su sn ch ca sa := fun r'' h => ih (b + 1) r'' M' F' 1 (by omega) (Or.inl ⟨rfl, hn, h⟩)
        exact br_c (fun _ => br_c (fun _ => nm_r (nI_1 b) (K 0 (Or.inl rfl))) (fun _ => nm_r (nI_1 b) (K 1 (Or.inr rfl)))) (fun _ => nm_r (nI_1 b) (K 1 (Or.inr rfl)))
      · have K := ih (b + 1) r M F 0 (by omega) (mr_I2_next (Or.inr ⟨rfl, HB, HC, h4⟩) fun _ q1 q2 hne hA => by rw [← q1, ← q2] at hA ⊢; exact hR hne hA)
        rcases h4 with ⟨r1, _⟩ | ⟨r1, _⟩
        · subst r1; exact br_t rfl (br_t rfl (nm_r (nI_1 b) K))
        · subst r1; exact br_f (by decide) (nm_r (nI_1 b) K)
      · have K := ih (b + 1) 1 M' F' 0 (by omega) (Or.inr ⟨rfl, HB', HC', Or.inr ⟨rfl, by omega⟩⟩)
        exact br_c (fun _ => br_f (by decide) (nm_r (nI_1 b) K)) (fun _ => nm_r (nI_1 b) K)
    · exact nm_r (nI_1 b) (ih (b + 1) r M F ck (by omega) (mr_I2_next H fun z => absurd z e3))
theorem mx_r2_4 {bo : Prop} {post : Int32 → SX → Prop} (hok : mr_ok cl) (hbo : bo) {M0 F0 : Int32}
    (hc : ∀ r M F : Int32, (r = 0 ∨ r = 1) → mr_No bo cl → post r (w, mr_cov cl, gc, rs, ce, mi, M, F, 1, cl, mr_nb, gs, wy, ww, su, sn, ch, ca, sa))
    (h0 : (∀ a b, a ≠ b → mr_A cl M0 F0 a b → mr_R cl M0 F0 a b) → post 0 (w, mr_cov cl, gc, rs, ce, mi, M0, F0, 0, cl, mr_nb, gs, wy, ww, su, sn, ch, ca, sa))
    (h1 : ∀ M F, mr_Be bo cl M F → mr_cz cl M F → mr_dc M0 F0 < mr_dc M F → post 1 (w, mr_cov cl, gc, rs, ce, mi, M, F, 0, cl, mr_nb, gs, wy, ww, su, sn, ch, ca, sa)) :
    ∀ (d a : Nat) (r M F ck : Int32), a + d = 20 → mr_I2 bo cl M0 F0 a 0 r M F ck → wX_ruleTwo_4 post (d + 1) r (nI a) w (mr_cov cl) gc rs ce mi M F ck cl mr_nb gs wy ww su sn ch ca sa := by
  intro d
  induction d with
  | zero =>
    intro a r M F ck ha H
    have : a = 20 := by omega
    subst this
    refine pk_le 20 20 (fun _ => ?_) (fun h => absurd h (by omega))
    rcases H with ⟨rfl, hn, hr⟩ | ⟨rfl, HB, HC, ⟨rfl, rfl, rfl, H⟩ | ⟨rfl, H⟩⟩
    · exact And.intro (mx_n01 hr) (hc r M F hr hn)
    · exact And.intro narrow_b0 (h0 fun a b hne hA => H a b (Or.inl hA.1) hne hA)
    · exact And.intro narrow_b1 (h1 M F HB HC H)
  | succ d ih =>
    intro a r M F ck ha H
    refine pk_le 20 a (fun h => absurd h (by omega)) (fun _ => Exists.intro 21 ?_)
    exact mx_r2_12 hok hbo (by omega) (fun r M F ck h => ih (a + 1) r M F ck (by omega) h) 20 0 r M F ck rfl H
theorem mx_ruleTwo {bo : Prop} {post : Int32 → SX → Prop} (hok : mr_ok cl) (hbo : bo) {M0 F0 : Int32} (HB : mr_Be bo cl M0 F0) (HC : mr_cz cl M0 F0)
    (hc : ∀ r M F : Int32, (r = 0 ∨ r = 1) → mr_No bo cl → post r (w, mr_cov cl, gc, rs, ce, mi, M, F, 1, cl, mr_nb, gs, wy, ww, su, sn, ch, ca, sa))
    (h0 : (∀ a b, a ≠ b → mr_A cl M0 F0 a b → mr_R cl M0 F0 a b) → post 0 (w, mr_cov cl, gc, rs, ce, mi, M0, F0, 0, cl, mr_nb, gs, wy, ww, su, sn, ch, ca, sa))
    (h1 : ∀ M F, mr_Be bo cl M F → mr_cz cl M F → mr_dc M0 F0 < mr_dc M F → post 1 (w, mr_cov cl, gc, rs, ce, mi, M, F, 0, cl, mr_nb, gs, wy, ww, su, sn, ch, ca, sa)) :
    wpX_ruleTwo post (w, mr_cov cl, gc, rs, ce, mi, M0, F0, 0, cl, mr_nb, gs, wy, ww, su, sn, ch, ca, sa) :=
  Exists.intro 21 (mx_r2_4 hok hbo hc h0 h1 20 0 0 M0 F0 0 rfl (Or.inr ⟨rfl, HB, HC, Or.inl ⟨rfl, rfl, rfl, fun a b h => by omega⟩⟩))
/-! all rules -/
theorem mx_ar23 {bo : Prop} {post : SX → Prop} (hok : mr_ok cl) {xb : Int32} (hx : (xb = 0 ∧ ¬ bo) ∨ (xb ≠ 0 ∧ bo))
    (hc : ∀ M F : Int32, mr_No bo cl → post (w, mr_cov cl, gc, rs, ce, mi, M, F, 1, cl, mr_nb, gs, wy, ww, su, sn, ch, ca, sa))
    (hd : ∀ M F : Int32, mr_Cz bo cl M F → mr_Be bo cl M F → post (w, mr_cov cl, gc, rs, ce, mi, M, F, 0, cl, mr_nb, gs, wy, ww, su, sn, ch, ca, sa)) :
    ∀ (d i : Nat) (r M F ck : Int32), i + d = 22 → ((ck = 1 ∧ mr_No bo cl) ∨ (ck = 0 ∧ mr_Be bo cl M F ∧ mr_cz cl M F ∧ (r = 0 → mr_Cz bo cl M F) ∧ (r ≠ 0 → i ≤ mr_dc M F))) →
    wX_applyRules_23 post xb (d + 1) r (nI i) w (mr_cov cl) gc rs ce mi M F ck cl mr_nb gs wy ww su sn ch ca sa := by
  intro d
  induction d with
  | zero =>
    intro i r M F ck hi H
    have : i = 22 := by omega
    subst this
    refine pk_le 22 22 (fun _ => ?_) (fun h => absurd h (by omega))
    rcases H with ⟨rfl, hn⟩ | ⟨rfl, HB, HC, z, nz⟩
    · exact hc M F hn
    · by_cases e : r = 0
      · exact hd M F (z e) HB
      · have := nz e
        have := mr_pc_le (M ||| F)
        unfold mr_dc at *
        omega
  | succ d ih =>
    intro i r M F ck hi H
    refine pk_le 22 i (fun h => absurd h (by omega)) (fun _ => br_c (fun e => ?_) (fun e => ?_))
    · rcases H with ⟨rfl, hn⟩ | ⟨rfl, HB, HC, z, nz⟩
      · exact hc M F hn
      · exact hd M F (z e) HB
    · rcases H with ⟨rfl, hn⟩ | ⟨rfl, HB, HC, z, nz⟩
      · exact br_f (by decide) (hc M F hn)
      · have hge := nz e
        refine br_t rfl (mx_ruleOne hok HB HC (fun r M F hr hn => ?_) (fun hR => ?_) (fun M' F' HB' HC' hlt => ?_))
        · have K : wX_applyRules_23 post xb (d + 1) r (nI (i + 1)) w (mr_cov cl) gc rs ce mi M F 1 cl mr_nb gs wy ww su sn ch ca sa := ih (i + 1) r M F 1 (by omega) (Or.inl ⟨rfl, hn⟩)
          exact br_c (fun _ => nm_r (nI_1 i) K) (fun _ => br_c (fun _ => br_f (by decide) (nm_r (nI_1 i) K)) (fun _ => nm_r (nI_1 i) K))
        · rcases hx with ⟨x1, x2⟩ | ⟨x1, x2⟩
          · refine br_t x1 (nm_r (nI_1 i) (ih (i + 1) 0 M F 0 (by omega) (Or.inr ⟨rfl, HB, HC, fun _ => ⟨HB.1, fun a b hab hA => ?_⟩, fun q => absurd rfl q⟩)))
            rcases hab with q | q
            · subst q; exact hR a hA.1 hA.2.2.1
            · exact absurd q x2
          · refine br_f x1 (br_t rfl (br_t rfl (mx_ruleTwo hok x2 HB HC (fun r M F hr hn => ?_) (fun hR2 => ?_) (fun M' F' HB' HC' hlt => ?_))))
            · exact nm_r (nI_1 i) (ih (i + 1) r M F 1 (by omega) (Or.inl ⟨rfl, hn⟩))
            · refine nm_r (nI_1 i) (ih (i + 1) 0 M F 0 (by omega) (Or.inr ⟨rfl, HB, HC, fun _ => ⟨HB.1, fun a b _ hA => ?_⟩, fun q => absurd rfl q⟩))
              by_cases q : a = b
              · subst q; exact hR a hA.1 hA.2.2.1
              · exact hR2 a b q hA
            · exact nm_r (nI_1 i) (ih (i + 1) 1 M' F' 0 (by omega) (Or.inr ⟨rfl, HB', HC', fun q => absurd q (by decide), fun _ => by omega⟩))
        · have K : wX_applyRules_23 post xb (d + 1) 1 (nI (i + 1)) w (mr_cov cl) gc rs ce mi M' F' 0 cl mr_nb gs wy ww su sn ch ca sa := ih (i + 1) 1 M' F' 0 (by omega) (Or.inr ⟨rfl, HB', HC', fun q => absurd q (by decide), fun _ => by omega⟩)
          exact br_c (fun _ => nm_r (nI_1 i) K) (fun _ => br_f (by decide) (nm_r (nI_1 i) K))
theorem mx_rules {bo : Prop} {post : SX → Prop} (hok : mr_ok cl) {xb dm df ck : Int32} (hx : (xb = 0 ∧ ¬ bo) ∨ (xb ≠ 0 ∧ bo))
    (hc : ∀ M F : Int32, mr_No bo cl → post (w, mr_cov cl, gc, rs, ce, mi, M, F, 1, cl, mr_nb, gs, wy, ww, su, sn, ch, ca, sa))
    (hd : ∀ M F : Int32, mr_Cz bo cl M F → mr_Be bo cl M F → post (w, mr_cov cl, gc, rs, ce, mi, M, F, 0, cl, mr_nb, gs, wy, ww, su, sn, ch, ca, sa)) :
    wpX_applyRules post (w, mr_cov cl, gc, rs, ce, mi, dm, df, ck, cl, mr_nb, gs, wy, ww, su, sn, ch, ca, sa) xb := by
  unfold wpX_applyRules
  have HB := mr_Be_0 bo cl
  refine mx_check hok (Or.inl rfl) (fun _ z => Exists.intro 23 (mx_ar23 hok hx hc hd 22 0 1 0 0 0 rfl (Or.inr ⟨rfl, HB, z, fun q => absurd q (by decide), fun _ => Nat.zero_le _⟩))) (fun z => Exists.intro 23 (mx_ar23 hok hx hc hd 22 0 1 0 0 1 rfl (Or.inl ⟨rfl, mr_cz_no HB (z.resolve_left fun q => q rfl)⟩)))
end MX
end
section
/-! the reference: its rules -/
section MY
variable {tt ec cc kn : Int32} {cl ed fo fw : Nat → Int32}
theorem my_oA {post : Int32 → Prop} (hok : mr_ok cl) {M F : Int32} {c : Nat} (hc : c < 20) (h : post (mr_oA cl M F c)) : wpY_open post (tt, ec, cc, kn, M, F, cl, mr_nb, ed, fo, fw) (nI c) := by
  refine And.intro (pk_in c 20 hc) ?_
  rw [nI_clamp (by omega)]
  exact my_cov hok h
theorem my_lf {post : Int32 → Prop} {M F : Int32} {c : Nat} (hc : c < 20) (h : post (cl c - nI (mr_pc (mr_nb c &&& M)))) : wpY_left post (tt, ec, cc, kn, M, F, cl, mr_nb, ed, fo, fw) (nI c) := by
  refine And.intro (pk_in c 20 hc) (And.intro (pk_in c 20 hc) ?_)
  rw [nI_clamp (by omega)]
  exact my_bits (mr_W_and (mr_nb_W c)) h
theorem my_clash_l {post : Int32 → Prop} (hok : mr_ok cl) {M F : Int32} (h0 : mr_cz cl M F → post 0) (h1 : ¬ mr_cz cl M F → post 1) : ∀ (d i : Nat), i + d = 20 →
    (∀ c, c < i → cl c ≠ -1 → 0 ≤ mr_lf cl M c ∧ mr_lf cl M c ≤ (mr_pc (mr_oA cl M F c) : Int)) → wY_clashes_2 post tt ec cc kn M F cl mr_nb ed fo fw (d + 1) (nI i) := by
  intro d
  induction d with
  | zero =>
    intro i hi H
    have : i = 20 := by omega
    subst this
    exact pk_le 20 20 (fun _ => h0 H) (fun h => absurd h (by omega))
  | succ d ih =>
    intro i hi H
    have hk : (nI i).toNatClampNeg = i := nI_clamp (by omega)
    have hp := mr_pc_le (mr_oA cl M F i)
    refine pk_le 20 i (fun h => absurd h (by omega)) (fun _ => And.intro (pk_in i 20 (by omega)) (br_c (fun e => ?_) (fun e => ?_)))
    · rw [hk, mr_lt0 hok (by omega)] at e
      refine nm_r (nI_1 i) (ih (i + 1) (by omega) fun c hc => ?_)
      by_cases z : c = i
      · subst z; exact fun y => absurd e y
      · exact H c (by omega)
    · rw [hk, mr_lt0 hok (by omega)] at e
      have hl := mr_lf_i hok (c := i) (by omega) e M
      refine my_lf (by omega) (ek_if (mr_i0 hl) (fun z => h1 fun y => ?_) (fun z => my_lf (by omega) (my_oA hok (by omega) (my_bits (mr_oA_W _ _ _ _) (ek_if (mr_ile hl (by omega)) (fun y => nm_r (nI_1 i) (ih (i + 1) (by omega) fun c hc => ?_)) (fun y => h1 fun x => ?_))))))
      · have := (y i (by omega) e).1; omega
      · by_cases t : c = i
        · subst t; exact fun _ => ⟨by omega, y⟩
        · exact H c (by omega)
      · have := (x i (by omega) e).2; omega
theorem my_clash {post : Int32 → Prop} (hok : mr_ok cl) {M F : Int32} (h0 : mr_cz cl M F → post 0) (h1 : ¬ mr_cz cl M F → post 1) : wpY_clashes post (tt, ec, cc, kn, M, F, cl, mr_nb, ed, fo, fw) :=
  Exists.intro 21 (my_clash_l hok h0 h1 20 0 rfl (fun c h => absurd h (Nat.not_lt_zero c)))
theorem mr_orF {x O : Int32} (hO : mr_W O) (hd : ∀ i, bt O i = true → bt x i = false) (h : x ||| O = x) : O = 0 := mr_eq0 hO fun i _ => mr_fof fun z => by
  have h1 := hd i z
  rw [← h, b_or, z, Bool.or_true] at h1
  exact absurd h1 (by decide)
theorem my_first {bo : Prop} {post : SY → Prop} (hok : mr_ok cl) {M F : Int32} {c : Nat} (hc : c < 20) (HB : mr_Be bo cl M F) (HC : mr_cz cl M F)
    (hp : ∀ M' F', mr_Be bo cl M' F' → mr_Le M F M' F' → (M' = M → F' = F → cl c ≠ -1 → mr_R cl M F c c) → post (tt, ec, cc, kn, M', F', cl, mr_nb, ed, fo, fw)) :
    wpY_useFirst post (tt, ec, cc, kn, M, F, cl, mr_nb, ed, fo, fw) (nI c) := by
  have hk : (nI c).toNatClampNeg = c := nI_clamp (by omega)
  have hv : vp_in (nI c) 20 := pk_in c 20 hc
  have hpl := mr_pc_le (mr_oA cl M F c)
  unfold wpY_useFirst
  refine my_oA hok hc (my_lf hc (And.intro hv (br_c (fun e => ?_) (fun e => ?_))))
  · unfold wY_useFirst_38
    have e2 := e
    rw [hk, mr_lt0 hok hc] at e2
    exact And.intro hv (br_t e (hp M F HB (mr_Le_r M F) fun _ _ z => absurd e2 z))
  · have e1 := e
    rw [hk, mr_lt0 hok hc] at e
    have hl := mr_lf_i hok hc e M
    have A1 := mr_A1 (M := M) (F := F) hc e
    have HF := mr_Be_F HB (Or.inl rfl) A1
    have HM := mr_Be_M HB (Or.inl rfl) A1
    rw [mr_O1, mr_m1e] at HF HM
    have hR : mr_oA cl M F c = 0 ∨ (mr_lf cl M c ≠ 0 ∧ mr_lf cl M c ≠ (mr_pc (mr_oA cl M F c) : Int)) → mr_R cl M F c c := fun z => by
      unfold mr_R
      rw [mr_O1, mr_m1e]
      refine ⟨(HC c hc e).1, (HC c hc e).2, fun y => ?_⟩
      rcases z with z | z
      · exact z
      · exact y.elim (fun y => absurd y z.1) (fun y => absurd y z.2)
    refine ek_if (mr_ie0 hl) (fun z => nm_e (hp M _ (HF z) (mr_Le_F _ _ _) fun _ y _ => hR (Or.inl (mr_orF (mr_oA_W _ _ _ _) (fun i t => (mr_oA_bt.mp t).2.2) y)))) (fun z => ?_)
    unfold wY_useFirst_38
    refine And.intro hv (br_f e1 (my_bits (mr_oA_W _ _ _ _) (ek_if (mr_ieq hl (by omega)) (fun y => nm_e (hp _ F (HM y) (mr_Le_M _ _ _) fun y _ _ => hR (Or.inl (mr_orF (mr_oA_W _ _ _ _) (fun i t => (mr_oA_bt.mp t).2.1) y)))) (fun y => hp M F HB (mr_Le_r M F) fun _ _ _ => hR (Or.inr ⟨z, y⟩)))))
theorem my_second {bo : Prop} {post : Int32 → SY → Prop} (hok : mr_ok cl) (hbo : bo) {M F : Int32} {a b : Nat} (ha : a < 20) (hb : b < 20) (HB : mr_Be bo cl M F)
    (hn : mr_No bo cl → post 0 (tt, ec, cc, kn, M, F, cl, mr_nb, ed, fo, fw))
    (hp : ∀ M' F', mr_Be bo cl M' F' → mr_Le M F M' F' → (M' = M → F' = F → a ≠ b → mr_A cl M F a b → mr_R cl M F a b) → post 1 (tt, ec, cc, kn, M', F', cl, mr_nb, ed, fo, fw)) :
    wpY_useSecond post (tt, ec, cc, kn, M, F, cl, mr_nb, ed, fo, fw) (nI a) (nI b) := by
  have ka : (nI a).toNatClampNeg = a := nI_clamp (by omega)
  have kb : (nI b).toNatClampNeg = b := nI_clamp (by omega)
  have same := hp M F HB (mr_Le_r M F)
  unfold wpY_useSecond
  refine pk_eq a b (fun e => same fun _ _ z => absurd e z) (fun e => And.intro (pk_in a 20 ha) (br_c (fun s => same fun _ _ _ z => ?_) (fun s => And.intro (pk_in b 20 hb) (br_c (fun t => same fun _ _ _ z => ?_) (fun t => ?_)))))
  · rw [ka, mr_lt0 hok ha] at s; exact absurd s z.2.2.1
  · rw [kb, mr_lt0 hok hb] at t; exact absurd t z.2.2.2.1
  · rw [ka, mr_lt0 hok ha] at s
    rw [kb, mr_lt0 hok hb] at t
    refine my_oA hok ha (my_oA hok hb (br_c (fun q => ?_) (fun q => same fun _ _ _ z => absurd (z.2.2.2.2 e) q)))
    have hA : mr_A cl M F a b := ⟨ha, hb, s, t, fun _ => q⟩
    have eO : mr_O cl M F a b = mr_oA cl M F b &&& (mr_oA cl M F a ^^^ (-1)) := if_neg e
    have em : mr_m cl M a b = mr_lf cl M b - mr_lf cl M a := if_neg e
    have hl : ((cl b - nI (mr_pc (mr_nb b &&& M))) - (cl a - nI (mr_pc (mr_nb a &&& M)))).toInt = mr_m cl M a b := by
      rw [em]
      exact mr_isub (mr_lf_i hok hb t M) (mr_lf_i hok ha s M) (mr_lf_b hok hb t M) (mr_lf_b hok ha s M)
    have hpl := mr_pc_le (mr_O cl M F a b)
    have hW := mr_O_W cl M F a b
    refine my_oA hok hb (my_oA hok ha (nm_r eO.symm (my_lf hb (my_lf ha (nm_e ?_)))))
    refine ek_if (mr_i0 hl) (fun z => hn (mr_Be_no HB (Or.inr hbo) hA (Or.inl z))) (fun z => my_bits hW (ek_if (mr_ile hl (by omega)) (fun y => ?_) (fun y => hn (mr_Be_no HB (Or.inr hbo) hA (Or.inr (by omega))))))
    have hR : mr_O cl M F a b = 0 ∨ (mr_m cl M a b ≠ 0 ∧ mr_m cl M a b ≠ (mr_pc (mr_O cl M F a b) : Int)) → mr_R cl M F a b := fun x => by
      refine ⟨by omega, y, fun v => ?_⟩
      rcases x with x | x
      · exact x
      · exact v.elim (fun v => absurd v x.1) (fun v => absurd v x.2)
    refine ek_if (mr_ie0 hl) (fun x => nm_e (hp M _ (mr_Be_F HB (Or.inr hbo) hA x) (mr_Le_F _ _ _) fun _ v _ _ => hR (Or.inl (mr_orF hW (fun i u => (mr_O_op u).2.2) v)))) (fun x => my_bits hW (ek_if (mr_ieq hl (by omega)) (fun v => nm_e (hp _ F (mr_Be_M HB (Or.inr hbo) hA v) (mr_Le_M _ _ _) fun v _ _ _ => hR (Or.inl (mr_orF hW (fun i u => (mr_O_op u).2.1) v)))) (fun v => same fun _ _ _ _ => hR (Or.inr ⟨x, v⟩))))
theorem mr_Le_same {M F M' F' M2 F2 : Int32} (h1 : mr_Le M F M' F') (h2 : mr_Le M' F' M2 F2) (e1 : M2 = M) (e2 : F2 = F) : M' = M ∧ F' = F := by
  subst e1 e2
  refine ⟨b_ext fun i _ => ?_, b_ext fun i _ => ?_⟩
  · rw [Bool.eq_iff_iff]; exact ⟨h2.1 i, h1.1 i⟩
  · rw [Bool.eq_iff_iff]; exact ⟨h2.2 i, h1.2 i⟩
theorem my_seconds_l {bo : Prop} {post : Int32 → SY → Prop} (hok : mr_ok cl) (hbo : bo) {M0 F0 : Int32}
    (hn : ∀ M F, mr_No bo cl → post 0 (tt, ec, cc, kn, M, F, cl, mr_nb, ed, fo, fw))
    (hp : ∀ M F, mr_Be bo cl M F → mr_Le M0 F0 M F → (M = M0 → F = F0 → ∀ a b, a ≠ b → mr_A cl M0 F0 a b → mr_R cl M0 F0 a b) → post 1 (tt, ec, cc, kn, M, F, cl, mr_nb, ed, fo, fw)) :
    ∀ (d i : Nat) (M F : Int32), i + d = 400 → mr_Be bo cl M F → mr_Le M0 F0 M F → (M = M0 → F = F0 → ∀ a b, 20 * a + b < i → a ≠ b → mr_A cl M0 F0 a b → mr_R cl M0 F0 a b) →
    wY_useSeconds_2 post (d + 1) (nI i) tt ec cc kn M F cl mr_nb ed fo fw := by
  intro d
  induction d with
  | zero =>
    intro i M F hi HB HL H
    have : i = 400 := by omega
    subst this
    refine pk_le 400 400 (fun _ => hp M F HB HL fun e1 e2 a b hne hA => H e1 e2 a b ?_ hne hA) (fun h => absurd h (by omega))
    have := hA.1
    have := hA.2.1
    omega
  | succ d ih =>
    intro i M F hi HB HL H
    have er : nI i - nI i / 20 * 20 = nI (i % 20) := pk_rem (d := 20) (by omega) (by decide) (by decide)
    have ed2 : nI i / 20 = nI (i / 20) := pk_div (d := 20) (by omega) (by decide) (by decide)
    refine pk_le 400 i (fun h => absurd h (by omega)) (fun _ => my_clash hok (fun z => br_t rfl (And.intro (by decide) (And.intro (by decide) ?_))) (fun z => br_f (by decide) (hn M F (mr_cz_no HB z))))
    rw [er, ed2]
    refine my_second hok hbo (by omega) (by omega) HB (fun h => br_t rfl (hn M F h)) (fun M' F' HB' HL' hR => br_f (by decide) (nm_r (nI_1 i) (ih (i + 1) M' F' (by omega) HB' (mr_Le_t HL HL') fun e1 e2 a b hab hne hA => ?_)))
    obtain ⟨q1, q2⟩ := mr_Le_same HL HL' e1 e2
    by_cases q : 20 * a + b = i
    · have ea : i / 20 = a := by have := hA.2.1; omega
      have eb : i % 20 = b := by have := hA.2.1; omega
      rw [ea, eb, e1, e2, q1, q2] at hR
      exact hR rfl rfl hne hA
    · exact H q1 q2 a b (by omega) hne hA
theorem my_seconds {bo : Prop} {post : Int32 → SY → Prop} (hok : mr_ok cl) (hbo : bo) {M0 F0 : Int32} (HB : mr_Be bo cl M0 F0)
    (hn : ∀ M F, mr_No bo cl → post 0 (tt, ec, cc, kn, M, F, cl, mr_nb, ed, fo, fw))
    (hp : ∀ M F, mr_Be bo cl M F → mr_Le M0 F0 M F → (M = M0 → F = F0 → ∀ a b, a ≠ b → mr_A cl M0 F0 a b → mr_R cl M0 F0 a b) → post 1 (tt, ec, cc, kn, M, F, cl, mr_nb, ed, fo, fw)) :
    wpY_useSeconds post (tt, ec, cc, kn, M0, F0, cl, mr_nb, ed, fo, fw) :=
  Exists.intro 401 (my_seconds_l hok hbo hn hp 400 0 M0 F0 rfl HB (mr_Le_r _ _) (fun _ _ a b h => absurd h (Nat.not_lt_zero _)))
/-- one pass over all rules -/
theorem my_de45 {bo : Prop} {post : Int32 → SY → Prop} {J : Int32 → Int32 → Int32 → Int32 → Int32 → Int32 → Int32 → (Nat → Int32) → (Nat → Int32) → (Nat → Int32) → (Nat → Int32) → (Nat → Int32) → Prop} (hok : mr_ok cl) {xb x2 : Int32} (hx : (xb = 0 ∧ ¬ bo) ∨ (xb ≠ 0 ∧ bo)) {M0 F0 : Int32}
    (hn : ∀ M F, mr_No bo cl → post (-3) (tt, ec, cc, kn, M, F, cl, mr_nb, ed, fo, fw))
    (hp : ∀ M F, mr_Be bo cl M F → mr_Le M0 F0 M F → (M = M0 → F = F0 → ∀ a b, (a = b ∨ bo) → mr_A cl M0 F0 a b → mr_R cl M0 F0 a b) → J x2 tt ec cc kn M F cl mr_nb ed fo fw) :
    ∀ (d i : Nat) (M F : Int32), i + d = 20 → mr_Be bo cl M F → mr_Le M0 F0 M F → (M = M0 → F = F0 → ∀ c, c < i → cl c ≠ -1 → mr_R cl M0 F0 c c) →
    wY_decide_45 post J xb x2 (d + 1) (nI i) tt ec cc kn M F cl mr_nb ed fo fw := by
  intro d
  induction d with
  | zero =>
    intro i M F hi HB HL H
    have : i = 20 := by omega
    subst this
    refine pk_le 20 20 (fun _ => ?_) (fun h => absurd h (by omega))
    rcases hx with ⟨x1, y1⟩ | ⟨x1, y1⟩
    · refine br_t x1 (hp M F HB HL fun e1 e2 a b hab hA => ?_)
      rcases hab with q | q
      · subst q; exact H e1 e2 a hA.1 hA.2.2.1
      · exact absurd q y1
    · refine br_f x1 (my_seconds hok y1 HB (fun M F h => br_t rfl (hn M F h)) (fun M' F' HB' HL' hR => br_f (by decide) (hp M' F' HB' (mr_Le_t HL HL') fun e1 e2 a b _ hA => ?_)))
      obtain ⟨q1, q2⟩ := mr_Le_same HL HL' e1 e2
      by_cases q : a = b
      · subst q; exact H q1 q2 a hA.1 hA.2.2.1
      · rw [q1, q2] at hR
        exact hR e1 e2 a b q hA
  | succ d ih =>
    intro i M F hi HB HL H
    refine pk_le 20 i (fun h => absurd h (by omega)) (fun _ => my_clash hok (fun z => br_t rfl (my_first hok (by omega) HB z fun M' F' HB' HL' hR => nm_r (nI_1 i) (ih (i + 1) M' F' (by omega) HB' (mr_Le_t HL HL') fun e1 e2 c hc => ?_))) (fun z => br_f (by decide) (hn M F (mr_cz_no HB z))))
    obtain ⟨q1, q2⟩ := mr_Le_same HL HL' e1 e2
    by_cases q : c = i
    · subst q
      rw [q1, q2] at hR
      exact hR e1 e2
    · exact H q1 q2 c (by omega)
theorem my_de12 {bo : Prop} {post : Int32 → SY → Prop} (hok : mr_ok cl) {xb : Int32} (hx : (xb = 0 ∧ ¬ bo) ∨ (xb ≠ 0 ∧ bo))
    (hn : ∀ M F, mr_No bo cl → post (-3) (tt, ec, cc, kn, M, F, cl, mr_nb, ed, fo, fw))
    (hd : ∀ M F, mr_Cz bo cl M F → mr_Be bo cl M F → post (nI (mr_pc (M ||| F))) (tt, ec, cc, kn, M, F, cl, mr_nb, ed, fo, fw)) :
    ∀ (d : Nat) (x2 M F : Int32), 20 ≤ mr_dc M F + d → mr_Be bo cl M F → (x2 = nI (mr_dc M F) → ∀ a b, (a = b ∨ bo) → mr_A cl M F a b → mr_R cl M F a b) →
    wY_decide_12 post xb (d + 2) x2 tt ec cc kn M F cl mr_nb ed fo fw := by
  have fin : ∀ (n : Nat) (M F : Int32), mr_Be bo cl M F → (∀ a b, (a = b ∨ bo) → mr_A cl M F a b → mr_R cl M F a b) → wY_decide_12 post xb (n + 1) (nI (mr_dc M F)) tt ec cc kn M F cl mr_nb ed fo fw := by
    intro n M F HB H
    unfold wY_decide_12
    refine my_bits (mr_W_or HB.1.1 HB.1.2.1) (br_t rfl (my_clash hok (fun z => br_t rfl (hd M F ⟨HB.1, H⟩ HB)) (fun z => br_f (by decide) (hn M F (mr_cz_no HB z)))))
  intro d
  induction d with
  | zero =>
    intro x2 M F hdc HB H
    by_cases e : x2 = nI (mr_dc M F)
    · rw [e]; exact fin 1 M F HB (H e)
    · have hW := mr_W_or HB.1.1 HB.1.2.1
      unfold wY_decide_12
      refine my_bits hW (br_f e (my_bits hW (Exists.intro 21 (my_de45 hok hx hn (fun M' F' HB' HL' hR => ?_) 20 0 M F rfl HB (mr_Le_r _ _) (fun _ _ c h => absurd h (Nat.not_lt_zero c))))))
      have h1 := mr_pc_le (M' ||| F')
      obtain ⟨q1, q2⟩ := mr_dc_eq HB.1 HB'.1 HL' (by unfold mr_dc at *; omega)
      rw [q1, q2]
      exact fin 0 M F HB (hR q1 q2)
  | succ d ih =>
    intro x2 M F hdc HB H
    by_cases e : x2 = nI (mr_dc M F)
    · rw [e]; exact fin _ M F HB (H e)
    · have hW := mr_W_or HB.1.1 HB.1.2.1
      unfold wY_decide_12
      refine my_bits hW (br_f e (my_bits hW (Exists.intro 21 (my_de45 hok hx hn (fun M' F' HB' HL' hR => ?_) 20 0 M F rfl HB (mr_Le_r _ _) (fun _ _ c h => absurd h (Nat.not_lt_zero c))))))
      by_cases q : mr_dc M' F' ≤ mr_dc M F
      · obtain ⟨q1, q2⟩ := mr_dc_eq HB.1 HB'.1 HL' q
        rw [q1, q2]
        exact fin _ M F HB (hR q1 q2)
      · have h1 := mr_pc_le (M' ||| F')
        have h2 := mr_pc_le (M ||| F)
        refine ih _ M' F' (by omega) HB' fun z => ?_
        have : nI (mr_dc M F) = nI (mr_dc M' F') := z
        unfold mr_dc at *
        rw [nI_eq (by omega) (by omega)] at this
        omega
theorem my_decide {bo : Prop} {post : Int32 → SY → Prop} (hok : mr_ok cl) {xb sm sf : Int32} (hx : (xb = 0 ∧ ¬ bo) ∨ (xb ≠ 0 ∧ bo))
    (hn : ∀ M F, mr_No bo cl → post (-3) (tt, ec, cc, kn, M, F, cl, mr_nb, ed, fo, fw))
    (hd : ∀ M F, mr_Cz bo cl M F → mr_Be bo cl M F → post (nI (mr_pc (M ||| F))) (tt, ec, cc, kn, M, F, cl, mr_nb, ed, fo, fw)) : wpY_decide post (tt, ec, cc, kn, sm, sf, cl, mr_nb, ed, fo, fw) xb :=
  Exists.intro 22 (my_de12 hok hx hn hd 20 (-1) 0 0 (by omega) (mr_Be_0 bo cl) fun z => absurd z.symm (mr_n1 (by have := mr_pc_le (0 ||| 0); unfold mr_dc; omega)))
end MY
end
section
/-! both constructors -/
theorem mr_dX : ∀ a, a < 5 → ∀ b, b < 5 → ((nI a - nI b < -1) ↔ ¬ b ≤ a + 1) ∧ ((1 < nI a - nI b) ↔ ¬ a ≤ b + 1) := by decide +kernel
theorem mr_dY : ∀ a, a < 5 → ∀ b, b < 5 → ((1 < (nI a - nI b) * (nI a - nI b)) ↔ ¬ (a ≤ b + 1 ∧ b ≤ a + 1)) := by decide +kernel
theorem mr_adj_t {c d : Nat} : mr_adj c d = true ↔ c ≠ d ∧ c / 5 ≤ d / 5 + 1 ∧ d / 5 ≤ c / 5 + 1 ∧ c % 5 ≤ d % 5 + 1 ∧ d % 5 ≤ c % 5 + 1 := decide_eq_true_iff
theorem mr_d5 {c : Nat} (hc : c < 20) : nI c / 5 = nI (c / 5) := pk_div (d := 5) (by omega) (by decide) (by decide)
theorem mr_r5 {c : Nat} (hc : c < 20) : nI c - nI c / 5 * 5 = nI (c % 5) := pk_rem (d := 5) (by omega) (by decide) (by decide)
def mr_ini (i : Nat) : Nat → Int32 := fun j => if j < i then -1 else 0
theorem mr_ini_s (i : Nat) : upd (mr_ini i) i (-1) = mr_ini (i + 1) := funext fun j => by
  show (if j = i then (-1 : Int32) else if j < i then -1 else 0) = if j < i + 1 then -1 else 0
  by_cases e : j = i
  · rw [if_pos e, if_pos (by omega)]
  · rw [if_neg e]
    by_cases q : j < i
    · rw [if_pos q, if_pos (by omega)]
    · rw [if_neg q, if_neg (by omega)]
def mr_nbj (c d : Nat) : Nat → Int32 := fun j => if j < c then mr_nb j else if j = c then mr_acc (mr_adj c) d else 0
theorem mr_nbj_0 : mr_nbj 0 0 = fun _ => 0 := funext fun j => by
  show (if j < 0 then mr_nb j else if j = 0 then (0 : Int32) else 0) = 0
  rw [if_neg (Nat.not_lt_zero j)]
  split <;> rfl
theorem mr_nbj_s (c : Nat) (hc : c < 20) : mr_nbj c 20 = mr_nbj (c + 1) 0 := funext fun j => by
  show (if j < c then mr_nb j else if j = c then mr_acc (mr_adj c) 20 else 0) = if j < c + 1 then mr_nb j else if j = c + 1 then (0 : Int32) else 0
  by_cases e : j = c
  · subst e
    rw [if_neg (Nat.lt_irrefl j), if_pos rfl, if_pos (by omega)]
    unfold mr_nb
    rw [if_pos hc]
  · by_cases q : j < c
    · rw [if_pos q, if_pos (by omega)]
    · rw [if_neg q, if_neg e, if_neg (by omega)]
      split <;> rfl
theorem mr_nbj_u (c d : Nat) (x : Int32) (hx : x = mr_acc (mr_adj c) (d + 1)) : upd (mr_nbj c d) c x = mr_nbj c (d + 1) := funext fun j => by
  show (if j = c then x else if j < c then mr_nb j else if j = c then mr_acc (mr_adj c) d else 0) = if j < c then mr_nb j else if j = c then mr_acc (mr_adj c) (d + 1) else 0
  by_cases e : j = c
  · rw [if_pos e, if_neg (by omega), if_pos e, hx]
  · rw [if_neg e, if_neg e, if_neg e]
theorem mr_nbj_at (c d : Nat) : mr_nbj c d c = mr_acc (mr_adj c) d := by
  show (if c < c then mr_nb c else if c = c then mr_acc (mr_adj c) d else 0) = _
  rw [if_neg (Nat.lt_irrefl c), if_pos rfl]
theorem mr_nbj_e : mr_nbj 20 0 = mr_nb := funext fun j => by
  show (if j < 20 then mr_nb j else if j = 20 then (0 : Int32) else 0) = mr_nb j
  by_cases q : j < 20
  · rw [if_pos q]
  · rw [if_neg q]
    have : mr_nb j = 0 := if_neg q
    rw [this]
    split <;> rfl
theorem mr_nbj_x (c : Nat) (hc : c < 20) : upd (mr_nbj c 0) c (mr_acc (mr_adj c) 20) = mr_nbj (c + 1) 0 := by
  rw [← mr_nbj_s c hc]
  funext j
  show (if j = c then mr_acc (mr_adj c) 20 else if j < c then mr_nb j else if j = c then (0 : Int32) else 0) = if j < c then mr_nb j else if j = c then mr_acc (mr_adj c) 20 else 0
  by_cases e : j = c
  · rw [if_pos e, if_neg (by omega), if_pos e]
  · rw [if_neg e, if_neg e, if_neg e]
theorem mr_ini_cov : mr_cov (mr_ini 20) = 1048575 := by
  have h : ∀ i, i < 32 → bt 1048575 i = decide (i < 20) := by decide +kernel
  refine b_ext fun i hi => ?_
  unfold mr_cov
  rw [mr_acc_bt _ 20 (by omega) i hi, h i hi]
  by_cases q : i < 20
  · rw [decide_eq_true q, Bool.true_and]
    exact decide_eq_true (if_pos q)
  · rw [decide_eq_false q]; rfl
theorem mr_ini_ok : mr_ok (mr_ini 20) := fun c hc => Or.inl (if_pos hc)
/-! the component -/
section MX
variable {w cv gc rs ce mi dm df ck : Int32} {cl nr gs wy ww su sn ch ca sa : Nat → Int32}
theorem mx_nb_l {post : Int32 → Prop} {c : Nat} (hc : c < 20) (hp : post (mr_acc (mr_adj c) 20)) : ∀ (d i : Nat), i + d = 20 →
    wX_neighboursOf_4 post (nI c) w cv gc rs ce mi dm df ck cl nr gs wy ww su sn ch ca sa (d + 1) (mr_acc (mr_adj c) i) (nI i) := by
  intro d
  induction d with
  | zero =>
    intro i hi
    have : i = 20 := by omega
    subst this
    exact pk_le 20 20 (fun _ => hp) (fun h => absurd h (by omega))
  | succ d ih =>
    intro i hi
    have h1 := ih (i + 1) (by omega)
    have no : mr_adj c i = false → wX_neighboursOf_61 post (wX_neighboursOf_4 post (nI c) w cv gc rs ce mi dm df ck cl nr gs wy ww su sn ch ca sa (d + 1)) (nI c) (mr_acc (mr_adj c) i) (nI i) w cv gc rs ce mi dm df ck cl nr gs wy ww su sn ch ca sa := by
      intro e
      rw [mr_acc_f e] at h1
      unfold wX_neighboursOf_61 wX_neighboursOf_62
      exact br_t rfl (nm_r (nI_1 i) h1)
    have yes : mr_adj c i = true → wX_neighboursOf_62 post (wX_neighboursOf_4 post (nI c) w cv gc rs ce mi dm df ck cl nr gs wy ww su sn ch ca sa (d + 1)) (nI c) (mr_acc (mr_adj c) i) (nI i) 1 w cv gc rs ce mi dm df ck cl nr gs wy ww su sn ch ca sa := by
      intro e
      rw [mr_acc_t e] at h1
      unfold wX_neighboursOf_62
      exact br_f (by decide) (nm_e (nm_r (nI_1 i) h1))
    have D1 := mr_dX (c / 5) (by omega) (i / 5) (by omega)
    have D2 := mr_dX (c % 5) (by omega) (i % 5) (by omega)
    have nf : ¬ mr_adj c i = true → mr_adj c i = false := fun z => mr_fof z
    refine pk_le 20 i (fun h => absurd h (by omega)) (fun _ => And.intro (by decide) (And.intro (by decide) (nm_r (e' := nI (c / 5) - nI (i / 5)) (by rw [mr_d5 hc, mr_d5 (by omega)]) (And.intro (by decide) (And.intro (by decide) (nm_r (e' := nI (c % 5) - nI (i % 5)) (by rw [mr_r5 hc, mr_r5 (by omega)]) ?_))))))
    refine ek_if D1.1 (fun z => no (nf fun y => z (mr_adj_t.mp y).2.2.1)) (fun z1 => ek_if D1.2 (fun z => no (nf fun y => z (mr_adj_t.mp y).2.1)) (fun z2 => ek_if D2.1 (fun z => no (nf fun y => z (mr_adj_t.mp y).2.2.2.2)) (fun z3 => ek_if D2.2 (fun z => no (nf fun y => z (mr_adj_t.mp y).2.2.2.1)) (fun z4 => pk_eq c i (fun z => no (nf fun y => (mr_adj_t.mp y).1 z)) (fun z => yes (mr_adj_t.mpr ⟨z, by omega, by omega, by omega, by omega⟩))))))
theorem mx_nb {post : Int32 → Prop} {c : Nat} (hc : c < 20) (hp : post (mr_acc (mr_adj c) 20)) : wpX_neighboursOf post (w, cv, gc, rs, ce, mi, dm, df, ck, cl, nr, gs, wy, ww, su, sn, ch, ca, sa) (nI c) :=
  Exists.intro 21 (mx_nb_l hc hp 20 0 rfl)
theorem mx_i150 {post : SX → Prop} {J : Int32 → (Nat → Int32) → (Nat → Int32) → (Nat → Int32) → (Nat → Int32) → (Nat → Int32) → (Nat → Int32) → (Nat → Int32) → (Nat → Int32) → (Nat → Int32) → (Nat → Int32) → Prop} {n : Nat} (hn : n < 21)
    (hp : ∀ ch : Nat → Int32, (∀ m k, m < n + 1 → k < 21 → ch (21 * m + k) = nI (mr_C m k)) → (∀ j, 21 * (n + 1) ≤ j → ch j = 0) → J (nI (n + 1)) cl nr gs wy ww su sn ch ca sa) :
    ∀ (d k : Nat) (ch : Nat → Int32), k + d = n + 1 → 1 ≤ k → (∀ m l, m < n → l < 21 → ch (21 * m + l) = nI (mr_C m l)) → (∀ l, l < k → ch (21 * n + l) = nI (mr_C n l)) → (∀ j, 21 * n + k ≤ j → ch j = 0) →
    wX_init_150 post J (nI n) w cv gc rs ce mi dm df ck (d + 1) (nI k) cl nr gs wy ww su sn ch ca sa := by
  intro d
  induction d with
  | zero =>
    intro k ch hk h1 hA hB hC
    refine pk_lt n k (fun _ => nm_r (nI_1 n) (hp ch (fun m l hm hl => ?_) (fun j hj => hC j (by omega)))) (fun h => absurd h (by omega))
    by_cases e : m = n
    · subst e
      by_cases q : l < k
      · exact hB l q
      · rw [hC _ (by omega), mr_C_0 m l (by omega)]; rfl
    · exact hA m l (by omega) hl
  | succ d ih =>
    intro k ch hk h1 hA hB hC
    obtain ⟨j, rfl⟩ : ∃ j, k = j + 1 := ⟨k - 1, by omega⟩
    obtain ⟨m, rfl⟩ : ∃ m, n = m + 1 := ⟨n - 1, by omega⟩
    have e0 : nI (m + 1) - 1 = nI m := nI_pred m
    have e1 : ((21 * (nI (m + 1) - 1)) + nI (j + 1)) = nI (21 * m + (j + 1)) := by rw [e0]; exact mr_21 _ _
    have e2 : ((21 * (nI (m + 1) - 1)) + nI (j + 1)) - 1 = nI (21 * m + j) := by rw [e1]; exact nI_pred (21 * m + j)
    have e3 : (21 * nI (m + 1)) + nI (j + 1) = nI (21 * (m + 1) + (j + 1)) := mr_21 _ _
    refine pk_lt (m + 1) (j + 1) (fun h => absurd h (by omega)) (fun _ => And.intro (pk_in (21 * m + j) 441 (by omega) e2) (And.intro (pk_in (21 * m + (j + 1)) 441 (by omega) e1) (And.intro (pk_in (21 * (m + 1) + (j + 1)) 441 (by omega) e3) (nm_r (e' := upd ch (21 * (m + 1) + (j + 1)) (nI (mr_C (m + 1) (j + 1)))) ?_ (nm_r (nI_1 (j + 1)) (ih (j + 1 + 1) _ (by omega) (by omega) (fun m' l hm hl => ?_) (fun l hl => ?_) (fun x hx => ?_)))))))
    · rw [e2, e1, e3, nI_clamp (by omega), nI_clamp (by omega), nI_clamp (by omega), hA m j (by omega) (by omega), hA m (j + 1) (by omega) (by omega), nI_add]
      rfl
    · rw [pk_un (by omega)]; exact hA m' l hm hl
    · by_cases q : l = j + 1
      · rw [q, pk_us]
      · rw [pk_un (by omega)]; exact hB l (by omega)
    · rw [pk_un (by omega)]; exact hC x (by omega)
theorem mx_i132 {post : SX → Prop} (hp : ∀ ch : Nat → Int32, mr_chk ch → post (w, cv, gc, rs, ce, mi, dm, df, ck, cl, nr, gs, wy, ww, su, sn, ch, ca, sa)) :
    ∀ (d n : Nat) (ch : Nat → Int32), n + d = 21 → (∀ m k, m < n → k < 21 → ch (21 * m + k) = nI (mr_C m k)) → (∀ j, 21 * n ≤ j → ch j = 0) →
    wX_init_132 post w cv gc rs ce mi dm df ck (d + 1) (nI n) cl nr gs wy ww su sn ch ca sa := by
  intro d
  induction d with
  | zero =>
    intro n ch hn hA hC
    refine pk_le 21 n (fun _ => hp ch fun m k hm hk => hA m k (by omega) (by omega)) (fun h => absurd h (by omega))
  | succ d ih =>
    intro n ch hn hA hC
    have e1 : 21 * nI n = nI (21 * n) := pk_mul 21 n
    refine pk_le 21 n (fun h => absurd h (by omega)) (fun _ => And.intro (pk_in (21 * n) 441 (by omega) e1) (nm_r (e' := upd ch (21 * n) 1) (by rw [e1, nI_clamp (by omega)]) (Exists.intro (n + 1) ?_)))
    refine mx_i150 (by omega) (fun ch hA hC => ih (n + 1) ch (by omega) hA hC) n 1 _ (by omega) (by omega) (fun m l hm hl => ?_) (fun l hl => ?_) (fun j hj => ?_)
    · rw [pk_un (by omega)]; exact hA m l hm hl
    · have : l = 0 := by omega
      subst this
      rw [Nat.add_zero, pk_us, mr_C_z]; rfl
    · rw [pk_un (by omega)]; exact hC j (by omega)
theorem mx_i100 {post : SX → Prop} (hp : ∀ ch : Nat → Int32, mr_chk ch → post (w, cv, gc, rs, ce, mi, dm, df, ck, mr_ini 20, mr_nb, gs, wy, ww, su, sn, ch, ca, sa)) : ∀ (d i : Nat), i + d = 20 →
    wX_init_100 post w cv gc rs ce mi dm df ck (d + 1) (nI i) (mr_ini i) (mr_nbj i 0) gs wy ww su sn (fun _ => 0) ca sa := by
  intro d
  induction d with
  | zero =>
    intro i hi
    have : i = 20 := by omega
    subst this
    rw [mr_nbj_e]
    exact pk_le 20 20 (fun _ => Exists.intro 22 (mx_i132 hp 21 0 _ rfl (fun m k h => absurd h (Nat.not_lt_zero m)) (fun j _ => rfl))) (fun h => absurd h (by omega))
  | succ d ih =>
    intro i hi
    have hk : (nI i).toNatClampNeg = i := nI_clamp (by omega)
    have hv : vp_in (nI i) 20 := pk_in i 20 (by omega)
    refine pk_le 20 i (fun h => absurd h (by omega)) (fun _ => And.intro hv (nm_r (e' := mr_ini (i + 1)) (by rw [hk]; exact mr_ini_s i) (mx_nb (by omega) (And.intro hv (nm_r (e' := mr_nbj (i + 1) 0) (by rw [hk]; exact mr_nbj_x i (by omega)) (nm_r (nI_1 i) (ih (i + 1) (by omega))))))))
end MX
/-! the reference -/
section MY
variable {tt ec cc kn sm sf : Int32} {cl nr ed fo fw : Nat → Int32}
theorem my_i67 {post : SY → Prop} {J : Int32 → (Nat → Int32) → (Nat → Int32) → (Nat → Int32) → (Nat → Int32) → (Nat → Int32) → Prop} {c : Nat} (hc : c < 20) (hp : J (nI (c + 1)) cl (mr_nbj (c + 1) 0) ed fo fw) : ∀ (d i : Nat), i + d = 20 →
    wY_init_67 post J (nI c) tt ec cc kn sm sf (d + 1) (nI i) cl (mr_nbj c i) ed fo fw := by
  intro d
  induction d with
  | zero =>
    intro i hi
    have : i = 20 := by omega
    subst this
    rw [mr_nbj_s c hc]
    exact pk_le 20 20 (fun _ => nm_r (nI_1 c) hp) (fun h => absurd h (by omega))
  | succ d ih =>
    intro i hi
    have h1 := ih (i + 1) (by omega)
    have hk : (nI c).toNatClampNeg = c := nI_clamp (by omega)
    have hv : vp_in (nI c) 20 := pk_in c 20 (by omega)
    have no : mr_adj c i = false → wY_init_115 post J (wY_init_67 post J (nI c) tt ec cc kn sm sf (d + 1)) (nI c) (nI i) tt ec cc kn sm sf cl (mr_nbj c i) ed fo fw := by
      intro e
      unfold wY_init_115 wY_init_116
      refine br_t rfl (And.intro hv (And.intro hv (nm_r (e' := mr_nbj c (i + 1)) ?_ (nm_r (nI_1 i) h1))))
      rw [hk, mr_nbj_at]
      exact mr_nbj_u c i _ (mr_acc_f e).symm
    have yes : mr_adj c i = true → wY_init_116 post J (wY_init_67 post J (nI c) tt ec cc kn sm sf (d + 1)) (nI c) (nI i) 1 tt ec cc kn sm sf cl (mr_nbj c i) ed fo fw := by
      intro e
      unfold wY_init_116
      refine br_f (by decide) (And.intro hv (And.intro hv (nm_r (e' := mr_nbj c (i + 1)) ?_ (nm_r (nI_1 i) h1))))
      rw [hk, mr_nbj_at]
      exact mr_nbj_u c i _ (mr_acc_t e).symm
    have D1 := mr_dY (c / 5) (by omega) (i / 5) (by omega)
    have D2 := mr_dY (c % 5) (by omega) (i % 5) (by omega)
    have nf : ¬ mr_adj c i = true → mr_adj c i = false := fun z => mr_fof z
    refine pk_le 20 i (fun h => absurd h (by omega)) (fun _ => And.intro (by decide) (And.intro (by decide) (nm_r (e' := nI (c / 5) - nI (i / 5)) (by rw [mr_d5 hc, mr_d5 (by omega)]) (And.intro (by decide) (And.intro (by decide) (nm_r (e' := nI (c % 5) - nI (i % 5)) (by rw [mr_r5 hc, mr_r5 (by omega)]) ?_))))))
    refine pk_eq c i (fun z => no (nf fun y => (mr_adj_t.mp y).1 z)) (fun z => ek_if D1 (fun z1 => no (nf fun y => z1 ⟨(mr_adj_t.mp y).2.1, (mr_adj_t.mp y).2.2.1⟩)) (fun z1 => ek_if D2 (fun z2 => no (nf fun y => z2 ⟨(mr_adj_t.mp y).2.2.2.1, (mr_adj_t.mp y).2.2.2.2⟩)) (fun z2 => yes (mr_adj_t.mpr ⟨z, by omega, by omega, by omega, by omega⟩))))
theorem my_i52 {post : SY → Prop} (hp : post (tt, ec, cc, kn, sm, sf, mr_ini 20, mr_nb, ed, fo, fw)) : ∀ (d i : Nat), i + d = 20 → wY_init_52 post tt ec cc kn sm sf (d + 1) (nI i) (mr_ini i) (mr_nbj i 0) ed fo fw := by
  intro d
  induction d with
  | zero =>
    intro i hi
    have : i = 20 := by omega
    subst this
    rw [mr_nbj_e]
    exact pk_le 20 20 (fun _ => hp) (fun h => absurd h (by omega))
  | succ d ih =>
    intro i hi
    have hk : (nI i).toNatClampNeg = i := nI_clamp (by omega)
    refine pk_le 20 i (fun h => absurd h (by omega)) (fun _ => And.intro (pk_in i 20 (by omega)) (nm_r (e' := mr_ini (i + 1)) (by rw [hk]; exact mr_ini_s i) (Exists.intro 21 (my_i67 (by omega) (ih (i + 1) (by omega)) 20 0 rfl))))
end MY
theorem mr_ini0 : mr_ini 0 = fun _ => 0 := funext fun j => if_neg (Nat.not_lt_zero j)
theorem mx_init {post : SX → Prop} (hp : ∀ ch : Nat → Int32, mr_chk ch → post (-1, mr_cov (mr_ini 20), 0, 0, 0, 0, 0, 0, 0, mr_ini 20, mr_nb, (fun _ => 0), (fun _ => 0), (fun _ => 0), (fun _ => 0), (fun _ => 0), ch, (fun _ => 0), (fun _ => 0))) : wpX_init post := by
  have h := mx_i100 (post := post) (w := -1) (cv := 1048575) (gc := 0) (rs := 0) (ce := 0) (mi := 0) (dm := 0) (df := 0) (ck := 0) (gs := fun _ => 0) (wy := fun _ => 0) (ww := fun _ => 0) (su := fun _ => 0) (sn := fun _ => 0) (ca := fun _ => 0) (sa := fun _ => 0) (by rw [mr_ini_cov] at hp; exact hp) 20 0 rfl
  rw [mr_ini0, mr_nbj_0] at h
  exact Exists.intro 21 h
theorem my_init {post : SY → Prop} (hp : post (-1, 0, 0, 0, 0, 0, mr_ini 20, mr_nb, (fun _ => 0), (fun _ => 0), (fun _ => 0))) : wpY_init post := by
  have h := my_i52 (post := post) hp 20 0 rfl
  rw [mr_ini0, mr_nbj_0] at h
  exact Exists.intro 21 h
end
section
/-! both: answers out of the counts -/
theorem mr_ok_u {cl : Nat → Int32} (h : mr_ok cl) {c m : Nat} (hm : m ≤ 8) : mr_ok (upd cl c (nI m)) := fun j hj => by
  by_cases e : j = c
  · rw [e, pk_us]; exact Or.inr ⟨m, hm, rfl⟩
  · rw [pk_un e]; exact h j hj
theorem mr_ok_u1 {cl : Nat → Int32} (h : mr_ok cl) {c : Nat} : mr_ok (upd cl c (-1)) := fun j hj => by
  by_cases e : j = c
  · rw [e, pk_us]; exact Or.inl rfl
  · rw [pk_un e]; exact h j hj
theorem mr_uu (cl : Nat → Int32) (c : Nat) (x y : Int32) : upd (upd cl c x) c y = upd cl c y := funext fun j => by
  show (if j = c then y else if j = c then x else cl j) = if j = c then y else cl j
  by_cases e : j = c
  · rw [if_pos e, if_pos e]
  · rw [if_neg e, if_neg e, if_neg e]
theorem mr_u_id {cl : Nat → Int32} {c : Nat} {x : Int32} (h : cl c = x) : upd cl c x = cl := funext fun j => by
  show (if j = c then x else cl j) = cl j
  by_cases e : j = c
  · rw [if_pos e, e, h]
  · rw [if_neg e]
noncomputable def mr_P (cl : Nat → Int32) (w t : Int32) (c : Nat) : Bool := decide (cl c = -1) && decide (nI (mr_Y cl w (nI c)) = t)
theorem mr_P_f1 {cl : Nat → Int32} {w t : Int32} {c : Nat} (h : cl c ≠ -1) : mr_P cl w t c = false := by
  unfold mr_P; rw [decide_eq_false h]; rfl
theorem mr_P_f2 {cl : Nat → Int32} {w t : Int32} {c : Nat} (h : nI (mr_Y cl w (nI c)) ≠ t) : mr_P cl w t c = false := by
  unfold mr_P; rw [decide_eq_false h, Bool.and_false]
theorem mr_P_t {cl : Nat → Int32} {w t : Int32} {c : Nat} (h : cl c = -1) (h2 : nI (mr_Y cl w (nI c)) = t) : mr_P cl w t c = true := by
  unfold mr_P; rw [decide_eq_true h, decide_eq_true h2]; rfl
theorem mr_cov_f {cl : Nat → Int32} {i : Nat} (hi : i < 20) : bt (mr_cov cl) i = false ↔ cl i ≠ -1 := by
  rw [mr_cov_bt hi]; exact decide_eq_false_iff_not
noncomputable def mr_PC (cl : Nat → Int32) (w : Int32) (c n : Nat) : Bool := decide (0 < mr_Y (upd cl c (nI n)) w (-1))
/-- the best cell so far, with its count -/
noncomputable def mr_bst (cl : Nat → Int32) (w : Int32) : Nat → Option (Nat × Nat)
  | 0 => none
  | i + 1 => if cl i = -1 then (match mr_bst cl w i with
    | none => some (i, mr_Y cl w (nI i))
    | some p => if p.2 ≤ mr_Y cl w (nI i) then some p else some (i, mr_Y cl w (nI i))) else mr_bst cl w i
def mr_bf (o : Option (Nat × Nat)) : Int32 := match o with
  | none => -2
  | some p => nI p.1
def mr_bl (A : Nat) (o : Option (Nat × Nat)) : Nat := match o with
  | none => A
  | some p => p.2
theorem mr_bst_n {cl : Nat → Int32} {w : Int32} {i : Nat} (h : cl i ≠ -1) : mr_bst cl w (i + 1) = mr_bst cl w i := if_neg h
theorem mr_bst_0 {cl : Nat → Int32} {w : Int32} {i : Nat} (h : cl i = -1) (e : mr_bst cl w i = none) : mr_bst cl w (i + 1) = some (i, mr_Y cl w (nI i)) := by
  show (if cl i = -1 then (match mr_bst cl w i with
    | none => some (i, mr_Y cl w (nI i))
    | some p => if p.2 ≤ mr_Y cl w (nI i) then some p else some (i, mr_Y cl w (nI i))) else mr_bst cl w i) = _
  rw [if_pos h, e]
theorem mr_bst_1 {cl : Nat → Int32} {w : Int32} {i : Nat} {p : Nat × Nat} (h : cl i = -1) (e : mr_bst cl w i = some p) : mr_bst cl w (i + 1) = if p.2 ≤ mr_Y cl w (nI i) then some p else some (i, mr_Y cl w (nI i)) := by
  show (if cl i = -1 then (match mr_bst cl w i with
    | none => some (i, mr_Y cl w (nI i))
    | some p => if p.2 ≤ mr_Y cl w (nI i) then some p else some (i, mr_Y cl w (nI i))) else mr_bst cl w i) = _
  rw [if_pos h, e]
theorem mr_bst_ok {cl : Nat → Int32} {w : Int32} : ∀ i, i ≤ 20 → ∀ p, mr_bst cl w i = some p → p.1 < 20 ∧ p.2 ≤ 2 ^ 20 := by
  intro i
  induction i with
  | zero => intro _ p h; exact absurd h (by intro z; cases z)
  | succ i ih =>
    intro hi p h
    by_cases e : cl i = -1
    · cases q : mr_bst cl w i with
      | none =>
        rw [mr_bst_0 e q] at h
        cases h
        exact ⟨by show i < 20; omega, mr_Y_le _ _ _⟩
      | some r =>
        rw [mr_bst_1 e q] at h
        by_cases z : r.2 ≤ mr_Y cl w (nI i)
        · rw [if_pos z] at h
          cases h
          exact ih (by omega) _ q
        · rw [if_neg z] at h
          cases h
          exact ⟨by show i < 20; omega, mr_Y_le _ _ _⟩
    · rw [mr_bst_n e] at h
      exact ih (by omega) p h
section MX
variable {w cv gc rs ce mi dm df ck : Int32} {cl nr gs wy ww su sn ch ca sa : Nat → Int32}
theorem mx_lay {post : Int32 → SX → Prop} (hok : mr_ok cl) (hw : mr_wok w) (hch : mr_chk ch)
    (hp : ∀ (gc rs ce mi : Int32) (gs wy ww su sn ca sa : Nat → Int32), post (nI (mr_Y cl w (-1))) (w, mr_cov cl, gc, rs, ce, mi, dm, df, ck, cl, mr_nb, gs, wy, ww, su, sn, ch, ca, sa)) :
    wpX_layouts post (w, mr_cov cl, gc, rs, ce, mi, dm, df, ck, cl, mr_nb, gs, wy, ww, su, sn, ch, ca, sa) := by
  refine mx_layouts hok hch ?_
  rw [mr_N_Y cl hw]
  exact hp
theorem mx_min {post : Int32 → SX → Prop} (hok : mr_ok cl) (hw : mr_wok w) (hch : mr_chk ch) {c : Nat} (hc : c < 20) (h0 : cl c ≠ -1 → post 0 (w, mr_cov cl, gc, rs, ce, mi, dm, df, ck, cl, mr_nb, gs, wy, ww, su, sn, ch, ca, sa))
    (hp : cl c = -1 → ∀ (gc rs ce mi : Int32) (gs wy ww su sn ca sa : Nat → Int32), post (nI (mr_Y cl w (nI c))) (w, mr_cov cl, gc, rs, ce, mi, dm, df, ck, cl, mr_nb, gs, wy, ww, su, sn, ch, ca, sa)) :
    wpX_minedIn post (w, mr_cov cl, gc, rs, ce, mi, dm, df, ck, cl, mr_nb, gs, wy, ww, su, sn, ch, ca, sa) (nI c) := by
  refine mx_minedIn hok hch hc (fun e => h0 ((mr_cov_f hc).mp e)) (fun e => ?_)
  rw [mr_N_Y cl hw]
  exact hp ((mr_cov_t hc).mp e)
theorem mx_free_l {post : Int32 → SX → Prop} (hok : mr_ok cl) (hw : mr_wok w) (hch : mr_chk ch) {A : Nat} (hA : 0 < A) (hA2 : A ≤ 2 ^ 20)
    (hp : ∀ (gc rs ce mi : Int32) (gs wy ww su sn ca sa : Nat → Int32), post (mr_acc (mr_P cl w 0) 20) (w, mr_cov cl, gc, rs, ce, mi, dm, df, ck, cl, mr_nb, gs, wy, ww, su, sn, ch, ca, sa)) :
    ∀ (d i : Nat) (gc rs ce mi : Int32) (gs wy ww su sn ca sa : Nat → Int32), i + d = 20 → wX_free_9 post (nI A) (d + 1) (mr_acc (mr_P cl w 0) i) (nI i) w (mr_cov cl) gc rs ce mi dm df ck cl mr_nb gs wy ww su sn ch ca sa := by
  intro d
  induction d with
  | zero =>
    intro i gc rs ce mi gs wy ww su sn ca sa hi
    have : i = 20 := by omega
    subst this
    exact pk_le 20 20 (fun _ => hp _ _ _ _ _ _ _ _ _ _ _) (fun h => absurd h (by omega))
  | succ d ih =>
    intro i gc rs ce mi gs wy ww su sn ca sa hi
    have no : mr_P cl w 0 i = false → ∀ (gc rs ce mi : Int32) (gs wy ww su sn ca sa : Nat → Int32), wX_free_43 post (wX_free_9 post (nI A) (d + 1)) (nI A) (mr_acc (mr_P cl w 0) i) (nI i) w (mr_cov cl) gc rs ce mi dm df ck cl mr_nb gs wy ww su sn ch ca sa := by
      intro e gc rs ce mi gs wy ww su sn ca sa
      have h1 := ih (i + 1) gc rs ce mi gs wy ww su sn ca sa (by omega)
      rw [mr_acc_f e] at h1
      unfold wX_free_43 wX_free_44
      exact br_t rfl (nm_r (nI_1 i) h1)
    have yes : mr_P cl w 0 i = true → ∀ (gc rs ce mi : Int32) (gs wy ww su sn ca sa : Nat → Int32), wX_free_44 post (wX_free_9 post (nI A) (d + 1)) (nI A) (mr_acc (mr_P cl w 0) i) (nI i) 1 w (mr_cov cl) gc rs ce mi dm df ck cl mr_nb gs wy ww su sn ch ca sa := by
      intro e gc rs ce mi gs wy ww su sn ca sa
      have h1 := ih (i + 1) gc rs ce mi gs wy ww su sn ca sa (by omega)
      rw [mr_acc_t e] at h1
      unfold wX_free_44
      exact br_f (by decide) (nm_e (nm_r (nI_1 i) h1))
    refine pk_le 20 i (fun h => absurd h (by omega)) (fun _ => pk_le A 0 (fun h => absurd h (by omega)) (fun _ => mx_has (by omega) (fun e => br_f (by decide) ?_) (fun e => br_t rfl (no (mr_P_f1 ((mr_cov_f (by omega)).mp e)) _ _ _ _ _ _ _ _ _ _ _))))
    refine mx_min hok hw hch (by omega) (fun z => absurd ((mr_cov_t (by omega)).mp e) z) fun z gc rs ce mi gs wy ww su sn ca sa => br_c (fun y => ?_) (fun y => ?_)
    · exact yes (mr_P_t z y) _ _ _ _ _ _ _ _ _ _ _
    · exact no (mr_P_f2 y) _ _ _ _ _ _ _ _ _ _ _
theorem mx_free {post : Int32 → SX → Prop} (hok : mr_ok cl) (hw : mr_wok w) (hch : mr_chk ch)
    (hp : ∀ (gc rs ce mi : Int32) (gs wy ww su sn ca sa : Nat → Int32), post (if mr_Y cl w (-1) = 0 then 0 else mr_acc (mr_P cl w 0) 20) (w, mr_cov cl, gc, rs, ce, mi, dm, df, ck, cl, mr_nb, gs, wy, ww, su, sn, ch, ca, sa)) :
    wpX_free post (w, mr_cov cl, gc, rs, ce, mi, dm, df, ck, cl, mr_nb, gs, wy, ww, su, sn, ch, ca, sa) := by
  unfold wpX_free
  refine mx_lay hok hw hch fun gc rs ce mi gs wy ww su sn ca sa => ?_
  have hl := mr_Y_le cl w (-1)
  by_cases e : mr_Y cl w (-1) = 0
  · rw [if_pos e] at hp
    rw [e]
    exact Exists.intro 1 (pk_le 20 0 (fun h => absurd h (by omega)) (fun _ => pk_le 0 0 (fun _ => hp _ _ _ _ _ _ _ _ _ _ _) (fun h => absurd h (by omega))))
  · rw [if_neg e] at hp
    exact Exists.intro 21 (mx_free_l hok hw hch (by omega) hl hp 20 0 _ _ _ _ _ _ _ _ _ _ _ rfl)
theorem mx_sure_l {post : Int32 → SX → Prop} (hok : mr_ok cl) (hw : mr_wok w) (hch : mr_chk ch) {A : Nat} (hA : 0 < A) (hA2 : A ≤ 2 ^ 20)
    (hp : ∀ (gc rs ce mi : Int32) (gs wy ww su sn ca sa : Nat → Int32), post (mr_acc (mr_P cl w (nI A)) 20) (w, mr_cov cl, gc, rs, ce, mi, dm, df, ck, cl, mr_nb, gs, wy, ww, su, sn, ch, ca, sa)) :
    ∀ (d i : Nat) (gc rs ce mi : Int32) (gs wy ww su sn ca sa : Nat → Int32), i + d = 20 → wX_sure_9 post (nI A) (d + 1) (mr_acc (mr_P cl w (nI A)) i) (nI i) w (mr_cov cl) gc rs ce mi dm df ck cl mr_nb gs wy ww su sn ch ca sa := by
  intro d
  induction d with
  | zero =>
    intro i gc rs ce mi gs wy ww su sn ca sa hi
    have : i = 20 := by omega
    subst this
    exact pk_le 20 20 (fun _ => hp _ _ _ _ _ _ _ _ _ _ _) (fun h => absurd h (by omega))
  | succ d ih =>
    intro i gc rs ce mi gs wy ww su sn ca sa hi
    have no : mr_P cl w (nI A) i = false → ∀ (gc rs ce mi : Int32) (gs wy ww su sn ca sa : Nat → Int32), wX_sure_44 post (wX_sure_9 post (nI A) (d + 1)) (nI A) (mr_acc (mr_P cl w (nI A)) i) (nI i) w (mr_cov cl) gc rs ce mi dm df ck cl mr_nb gs wy ww su sn ch ca sa := by
      intro e gc rs ce mi gs wy ww su sn ca sa
      have h1 := ih (i + 1) gc rs ce mi gs wy ww su sn ca sa (by omega)
      rw [mr_acc_f e] at h1
      unfold wX_sure_44 wX_sure_45
      exact br_t rfl (nm_r (nI_1 i) h1)
    have yes : mr_P cl w (nI A) i = true → ∀ (gc rs ce mi : Int32) (gs wy ww su sn ca sa : Nat → Int32), wX_sure_45 post (wX_sure_9 post (nI A) (d + 1)) (nI A) (mr_acc (mr_P cl w (nI A)) i) (nI i) 1 w (mr_cov cl) gc rs ce mi dm df ck cl mr_nb gs wy ww su sn ch ca sa := by
      intro e gc rs ce mi gs wy ww su sn ca sa
      have h1 := ih (i + 1) gc rs ce mi gs wy ww su sn ca sa (by omega)
      rw [mr_acc_t e] at h1
      unfold wX_sure_45
      exact br_f (by decide) (nm_e (nm_r (nI_1 i) h1))
    refine pk_le 20 i (fun h => absurd h (by omega)) (fun _ => pk_le A 0 (fun h => absurd h (by omega)) (fun _ => mx_has (by omega) (fun e => br_f (by decide) ?_) (fun e => br_t rfl (no (mr_P_f1 ((mr_cov_f (by omega)).mp e)) _ _ _ _ _ _ _ _ _ _ _))))
    refine mx_min hok hw hch (by omega) (fun z => absurd ((mr_cov_t (by omega)).mp e) z) fun z gc rs ce mi gs wy ww su sn ca sa => br_c (fun y => ?_) (fun y => ?_)
    · exact yes (mr_P_t z y) _ _ _ _ _ _ _ _ _ _ _
    · exact no (mr_P_f2 y) _ _ _ _ _ _ _ _ _ _ _
theorem mx_sure {post : Int32 → SX → Prop} (hok : mr_ok cl) (hw : mr_wok w) (hch : mr_chk ch)
    (hp : ∀ (gc rs ce mi : Int32) (gs wy ww su sn ca sa : Nat → Int32), post (if mr_Y cl w (-1) = 0 then 0 else mr_acc (mr_P cl w (nI (mr_Y cl w (-1)))) 20) (w, mr_cov cl, gc, rs, ce, mi, dm, df, ck, cl, mr_nb, gs, wy, ww, su, sn, ch, ca, sa)) :
    wpX_sure post (w, mr_cov cl, gc, rs, ce, mi, dm, df, ck, cl, mr_nb, gs, wy, ww, su, sn, ch, ca, sa) := by
  unfold wpX_sure
  refine mx_lay hok hw hch fun gc rs ce mi gs wy ww su sn ca sa => ?_
  have hl := mr_Y_le cl w (-1)
  by_cases e : mr_Y cl w (-1) = 0
  · rw [if_pos e] at hp
    rw [e]
    exact Exists.intro 1 (pk_le 20 0 (fun h => absurd h (by omega)) (fun _ => pk_le 0 0 (fun _ => hp _ _ _ _ _ _ _ _ _ _ _) (fun h => absurd h (by omega))))
  · rw [if_neg e] at hp
    exact Exists.intro 21 (mx_sure_l hok hw hch (by omega) hl hp 20 0 _ _ _ _ _ _ _ _ _ _ _ rfl)
theorem mx_best_l {post : Int32 → SX → Prop} (hok : mr_ok cl) (hw : mr_wok w) (hch : mr_chk ch) {A : Nat} (eA : A = mr_Y cl w (-1)) (hA : 0 < A)
    (hp : ∀ (gc rs ce mi : Int32) (gs wy ww su sn ca sa : Nat → Int32), post (mr_bf (mr_bst cl w 20)) (w, mr_cov cl, gc, rs, ce, mi, dm, df, ck, cl, mr_nb, gs, wy, ww, su, sn, ch, ca, sa)) :
    ∀ (d i : Nat) (gc rs ce mi : Int32) (gs wy ww su sn ca sa : Nat → Int32), i + d = 20 → wX_best_15 post (nI A) (d + 1) (mr_bf (mr_bst cl w i)) (nI (mr_bl (A + 1) (mr_bst cl w i))) (nI i) w (mr_cov cl) gc rs ce mi dm df ck cl mr_nb gs wy ww su sn ch ca sa := by
  have hA2 := mr_Y_le cl w (-1)
  intro d
  induction d with
  | zero =>
    intro i gc rs ce mi gs wy ww su sn ca sa hi
    have : i = 20 := by omega
    subst this
    exact pk_le 20 20 (fun _ => hp _ _ _ _ _ _ _ _ _ _ _) (fun h => absurd h (by omega))
  | succ d ih =>
    intro i gc rs ce mi gs wy ww su sn ca sa hi
    refine pk_le 20 i (fun h => absurd h (by omega)) (fun _ => pk_le A 0 (fun h => absurd h (by omega)) (fun _ => mx_has (by omega) (fun e => br_f (by decide) ?_) (fun e => br_t rfl ?_)))
    · refine mx_min hok hw hch (by omega) (fun z => absurd ((mr_cov_t (by omega)).mp e) z) fun z gc rs ce mi gs wy ww su sn ca sa => ?_
      have h1 := ih (i + 1) gc rs ce mi gs wy ww su sn ca sa (by omega)
      have hm := mr_Y_mono w (c := i) (by omega) z
      have hl := mr_Y_le cl w (nI i)
      unfold wX_best_49
      cases q : mr_bst cl w i with
      | none =>
        rw [mr_bst_0 z q] at h1
        refine pk_le (A + 1) (mr_Y cl w (nI i)) (fun h => absurd h (by omega)) (fun _ => ?_)
        unfold wX_best_63
        exact pk_le (A + 1) (mr_Y cl w (nI i)) (fun h => absurd h (by omega)) (fun _ => nm_r (nI_1 i) h1)
      | some p =>
        rw [mr_bst_1 z q] at h1
        have hb := mr_bst_ok i (by omega) p q
        by_cases y : p.2 ≤ mr_Y cl w (nI i)
        · rw [if_pos y] at h1
          refine pk_le p.2 (mr_Y cl w (nI i)) (fun _ => ?_) (fun h => absurd h (by omega))
          unfold wX_best_63
          exact pk_le p.2 (mr_Y cl w (nI i)) (fun _ => nm_r (nI_1 i) h1) (fun h => absurd h (by omega))
        · rw [if_neg y] at h1
          refine pk_le p.2 (mr_Y cl w (nI i)) (fun h => absurd h (by omega)) (fun _ => ?_)
          unfold wX_best_63
          exact pk_le p.2 (mr_Y cl w (nI i)) (fun h => absurd h (by omega)) (fun _ => nm_r (nI_1 i) h1)
    · have h1 := ih (i + 1) gc rs ce mi gs wy ww su sn ca sa (by omega)
      rw [mr_bst_n ((mr_cov_f (by omega)).mp e)] at h1
      unfold wX_best_49
      refine br_t Int32.le_rfl ?_
      unfold wX_best_63
      exact br_t Int32.le_rfl (nm_r (nI_1 i) h1)
theorem mx_best {post : Int32 → SX → Prop} (hok : mr_ok cl) (hw : mr_wok w) (hch : mr_chk ch)
    (hp : ∀ (gc rs ce mi : Int32) (gs wy ww su sn ca sa : Nat → Int32), post (if mr_Y cl w (-1) = 0 then -2 else mr_bf (mr_bst cl w 20)) (w, mr_cov cl, gc, rs, ce, mi, dm, df, ck, cl, mr_nb, gs, wy, ww, su, sn, ch, ca, sa)) :
    wpX_best post (w, mr_cov cl, gc, rs, ce, mi, dm, df, ck, cl, mr_nb, gs, wy, ww, su, sn, ch, ca, sa) := by
  unfold wpX_best
  refine mx_lay hok hw hch fun gc rs ce mi gs wy ww su sn ca sa => nm_r (nI_1 _) ?_
  have hl := mr_Y_le cl w (-1)
  by_cases e : mr_Y cl w (-1) = 0
  · rw [if_pos e] at hp
    rw [e]
    exact Exists.intro 1 (pk_le 20 0 (fun h => absurd h (by omega)) (fun _ => pk_le 0 0 (fun _ => hp _ _ _ _ _ _ _ _ _ _ _) (fun h => absurd h (by omega))))
  · rw [if_neg e] at hp
    exact Exists.intro 21 (mx_best_l hok hw hch rfl (by omega) hp 20 0 _ _ _ _ _ _ _ _ _ _ _ rfl)
theorem mx_clues_l {post : Int32 → SX → Prop} (hok : mr_ok cl) (hw : mr_wok w) (hch : mr_chk ch) {c : Nat} (hc : c < 20) (hv : cl c = -1)
    (hp : ∀ (gc rs ce mi : Int32) (gs wy ww su sn ca sa : Nat → Int32), post (mr_acc (mr_PC cl w c) 9) (w, mr_cov cl, gc, rs, ce, mi, dm, df, ck, cl, mr_nb, gs, wy, ww, su, sn, ch, ca, sa)) :
    ∀ (d i : Nat) (cv gc rs ce mi : Int32) (cl' gs wy ww su sn ca sa : Nat → Int32), i + d = 9 → (∀ v, upd cl' c v = upd cl c v) →
    wX_clues_26 post (nI c) (d + 1) (mr_acc (mr_PC cl w c) i) (nI i) w cv gc rs ce mi dm df ck cl' mr_nb gs wy ww su sn ch ca sa := by
  have hk : (nI c).toNatClampNeg = c := nI_clamp (by omega)
  have hin : vp_in (nI c) 20 := pk_in c 20 hc
  intro d
  induction d with
  | zero =>
    intro i cv gc rs ce mi cl' gs wy ww su sn ca sa hi hu
    have : i = 9 := by omega
    subst this
    refine pk_lt 8 9 (fun _ => And.intro hin (nm_r (e' := cl) ?_ (mx_refresh (hp _ _ _ _ _ _ _ _ _ _ _)))) (fun h => absurd h (by omega))
    rw [hk, hu, mr_u_id hv]
  | succ d ih =>
    intro i cv gc rs ce mi cl' gs wy ww su sn ca sa hi hu
    refine pk_lt 8 i (fun h => absurd h (by omega)) (fun _ => And.intro hin (nm_r (e' := upd cl c (nI i)) (by rw [hk, hu]) (mx_refresh ?_)))
    refine mx_lay (mr_ok_u hok (by omega)) hw hch fun gc rs ce mi gs wy ww su sn ca sa => ?_
    have h1 := ih (i + 1) (mr_cov (upd cl c (nI i))) gc rs ce mi (upd cl c (nI i)) gs wy ww su sn ca sa (by omega) (fun v => mr_uu _ _ _ _)
    have hl := mr_Y_le (upd cl c (nI i)) w (-1)
    refine pk_le (mr_Y (upd cl c (nI i)) w (-1)) 0 (fun h => ?_) (fun h => ?_)
    · rw [mr_acc_f (decide_eq_false (by omega))] at h1
      exact nm_r (nI_1 i) h1
    · rw [mr_acc_t (decide_eq_true h)] at h1
      exact nm_e (nm_r (nI_1 i) h1)
theorem mx_withMines {post : Int32 → SX → Prop} (hok : mr_ok cl) (hch : mr_chk ch) {p : Int32}
    (h0 : (p < 0 ∨ nI 21 ≤ p ∨ (w ≠ -1 ∧ w ≠ p)) → ∀ (gc rs ce mi : Int32) (gs wy ww su sn ca sa : Nat → Int32), post 0 (w, mr_cov cl, gc, rs, ce, mi, dm, df, ck, cl, mr_nb, gs, wy, ww, su, sn, ch, ca, sa))
    (h1 : ∀ n : Nat, n < 21 → p = nI n → (w = -1 ∨ w = p) → ∀ (gc rs ce mi : Int32) (gs wy ww su sn ca sa : Nat → Int32), post (nI (mr_sums cl (-1) n)) (w, mr_cov cl, gc, rs, ce, mi, dm, df, ck, cl, mr_nb, gs, wy, ww, su, sn, ch, ca, sa)) :
    wpX_withMines post (w, mr_cov cl, gc, rs, ce, mi, dm, df, ck, cl, mr_nb, gs, wy, ww, su, sn, ch, ca, sa) p := by
  unfold wpX_withMines
  refine mx_count hok (Or.inl rfl) hch fun gc rs ce mi gs wy ww su sn ca sa hs => ?_
  have no : (p < 0 ∨ nI 21 ≤ p ∨ (w ≠ -1 ∧ w ≠ p)) → wX_withMines_31 post p w (mr_cov cl) gc rs ce mi dm df ck cl mr_nb gs wy ww su sn ch ca sa := by
    intro z
    unfold wX_withMines_31 wX_withMines_36
    exact br_f (by decide) (h0 z _ _ _ _ _ _ _ _ _ _ _)
  refine br_c (fun z => no (Or.inl z)) (fun z => br_c (fun z2 => no (Or.inr (Or.inl z2))) (fun z2 => ?_))
  obtain ⟨n, hn, e⟩ : ∃ n : Nat, n < 21 ∧ p = nI n := by
    rcases pk_ix p (n := 21) (by omega) with q | q | q
    · exact absurd q z
    · exact absurd q z2
    · exact q
  have yes : (w = -1 ∨ w = p) → wX_withMines_35 post p w (mr_cov cl) gc rs ce mi dm df ck cl mr_nb gs wy ww su sn ch ca sa := by
    intro z
    unfold wX_withMines_35 wX_withMines_36
    have h3 := h1 n hn e z gc rs ce mi gs wy ww su sn ca sa
    subst e
    refine br_t rfl (And.intro (pk_in n 21 hn) ?_)
    rw [nI_clamp (by omega), hs n hn]
    exact h3
  exact br_c (fun y => yes (Or.inl y)) (fun y => br_c (fun y2 => yes (Or.inr y2)) (fun y2 => no (Or.inr (Or.inr ⟨y, y2⟩))))
end MX
section MY
variable {tt ec cc kn sm sf : Int32} {cl nr ed fo fw : Nat → Int32}
theorem my_cw_l {post : Int32 → SY → Prop} (hok : mr_ok cl) (hw : mr_wok tt) {t : Int32} (hp : ∀ (ec cc kn : Int32) (ed fo fw : Nat → Int32), (kn ≠ 0 → mr_kn cl ec cc fo fw) → post (mr_acc (mr_P cl tt t) 20) (tt, ec, cc, kn, sm, sf, cl, mr_nb, ed, fo, fw)) :
    ∀ (d i : Nat) (ec cc kn : Int32) (ed fo fw : Nat → Int32), i + d = 20 → (kn ≠ 0 → mr_kn cl ec cc fo fw) → wY_cellsWith_4 post t (d + 1) (mr_acc (mr_P cl tt t) i) (nI i) tt ec cc kn sm sf cl mr_nb ed fo fw := by
  intro d
  induction d with
  | zero =>
    intro i ec cc kn ed fo fw hi h
    have : i = 20 := by omega
    subst this
    exact pk_le 20 20 (fun _ => hp ec cc kn ed fo fw h) (fun h => absurd h (by omega))
  | succ d ih =>
    intro i ec cc kn ed fo fw hi h
    have hk : (nI i).toNatClampNeg = i := nI_clamp (by omega)
    refine pk_le 20 i (fun h => absurd h (by omega)) (fun _ => And.intro (pk_in i 20 (by omega)) (br_c (fun e => ?_) (fun e => ?_)))
    · rw [hk, mr_ge0 hok (by omega)] at e
      have h1 := ih (i + 1) ec cc kn ed fo fw (by omega) h
      rw [mr_acc_f (mr_P_f1 e)] at h1
      exact nm_r (nI_1 i) h1
    · rw [hk, mr_ge0 hok (by omega), Classical.not_not] at e
      refine my_mined1 hok hw (by omega) h (fun z => absurd e z) (fun _ ec cc kn ed fo fw h => br_c (fun y => ?_) (fun y => ?_))
      · have h1 := ih (i + 1) ec cc kn ed fo fw (by omega) h
        rw [mr_acc_t (mr_P_t e y)] at h1
        exact nm_e (nm_r (nI_1 i) h1)
      · have h1 := ih (i + 1) ec cc kn ed fo fw (by omega) h
        rw [mr_acc_f (mr_P_f2 y)] at h1
        exact nm_r (nI_1 i) h1
theorem my_cw {post : Int32 → SY → Prop} (hok : mr_ok cl) (hw : mr_wok tt) {t : Int32} (h : kn ≠ 0 → mr_kn cl ec cc fo fw) (hp : ∀ (ec cc kn : Int32) (ed fo fw : Nat → Int32), (kn ≠ 0 → mr_kn cl ec cc fo fw) → post (mr_acc (mr_P cl tt t) 20) (tt, ec, cc, kn, sm, sf, cl, mr_nb, ed, fo, fw)) :
    wpY_cellsWith post (tt, ec, cc, kn, sm, sf, cl, mr_nb, ed, fo, fw) t := Exists.intro 21 (my_cw_l hok hw hp 20 0 ec cc kn ed fo fw rfl h)
theorem mr_Y0 {cl : Nat → Int32} {w : Int32} : nI (mr_Y cl w (-1)) = 0 ↔ mr_Y cl w (-1) = 0 := by
  have hl := mr_Y_le cl w (-1)
  rw [← nI_0, nI_eq (by omega) (by omega)]
theorem my_free {post : Int32 → SY → Prop} (hok : mr_ok cl) (hw : mr_wok tt) (h : kn ≠ 0 → mr_kn cl ec cc fo fw)
    (hp : ∀ (ec cc kn : Int32) (ed fo fw : Nat → Int32), (kn ≠ 0 → mr_kn cl ec cc fo fw) → post (if mr_Y cl tt (-1) = 0 then 0 else mr_acc (mr_P cl tt 0) 20) (tt, ec, cc, kn, sm, sf, cl, mr_nb, ed, fo, fw)) :
    wpY_free post (tt, ec, cc, kn, sm, sf, cl, mr_nb, ed, fo, fw) := by
  unfold wpY_free
  refine my_count hok hw h fun ec cc kn ed fo fw h => ek_if mr_Y0 (fun e => ?_) (fun e => my_cw hok hw h ?_)
  · have := hp ec cc kn ed fo fw h
    rw [if_pos e] at this; exact this
  · rw [if_neg e] at hp; exact hp
theorem my_sure {post : Int32 → SY → Prop} (hok : mr_ok cl) (hw : mr_wok tt) (h : kn ≠ 0 → mr_kn cl ec cc fo fw)
    (hp : ∀ (ec cc kn : Int32) (ed fo fw : Nat → Int32), (kn ≠ 0 → mr_kn cl ec cc fo fw) → post (if mr_Y cl tt (-1) = 0 then 0 else mr_acc (mr_P cl tt (nI (mr_Y cl tt (-1)))) 20) (tt, ec, cc, kn, sm, sf, cl, mr_nb, ed, fo, fw)) :
    wpY_sure post (tt, ec, cc, kn, sm, sf, cl, mr_nb, ed, fo, fw) := by
  unfold wpY_sure
  refine my_count hok hw h fun ec cc kn ed fo fw h => ek_if mr_Y0 (fun e => ?_) (fun e => my_cw hok hw h ?_)
  · have := hp ec cc kn ed fo fw h
    rw [if_pos e] at this; exact this
  · rw [if_neg e] at hp; exact hp
theorem my_best_l {post : Int32 → SY → Prop} (hok : mr_ok cl) (hw : mr_wok tt) (hp : ∀ (ec cc kn : Int32) (ed fo fw : Nat → Int32), (kn ≠ 0 → mr_kn cl ec cc fo fw) → post (mr_bf (mr_bst cl tt 20)) (tt, ec, cc, kn, sm, sf, cl, mr_nb, ed, fo, fw)) :
    ∀ (d i : Nat) (ec cc kn : Int32) (ed fo fw : Nat → Int32), i + d = 20 → (kn ≠ 0 → mr_kn cl ec cc fo fw) → wY_best_17 post (d + 1) (mr_bf (mr_bst cl tt i)) (nI (mr_bl 0 (mr_bst cl tt i))) (nI i) tt ec cc kn sm sf cl mr_nb ed fo fw := by
  intro d
  induction d with
  | zero =>
    intro i ec cc kn ed fo fw hi h
    have : i = 20 := by omega
    subst this
    exact pk_le 20 20 (fun _ => hp ec cc kn ed fo fw h) (fun h => absurd h (by omega))
  | succ d ih =>
    intro i ec cc kn ed fo fw hi h
    have hk : (nI i).toNatClampNeg = i := nI_clamp (by omega)
    refine pk_le 20 i (fun h => absurd h (by omega)) (fun _ => And.intro (pk_in i 20 (by omega)) (br_c (fun e => ?_) (fun e => ?_)))
    · rw [hk, mr_ge0 hok (by omega)] at e
      have h1 := ih (i + 1) ec cc kn ed fo fw (by omega) h
      rw [mr_bst_n e] at h1
      exact nm_r (nI_1 i) h1
    · rw [hk, mr_ge0 hok (by omega), Classical.not_not] at e
      refine my_mined1 hok hw (by omega) h (fun z => absurd e z) (fun _ ec cc kn ed fo fw h => ?_)
      have h1 := ih (i + 1) ec cc kn ed fo fw (by omega) h
      have hl := mr_Y_le cl tt (nI i)
      cases q : mr_bst cl tt i with
      | none =>
        rw [mr_bst_0 e q] at h1
        exact br_t rfl (nm_r (nI_1 i) h1)
      | some p =>
        rw [mr_bst_1 e q] at h1
        have hb := mr_bst_ok i (by omega) p q
        refine br_f (fun z => ?_) (pk_le p.2 (mr_Y cl tt (nI i)) (fun y => ?_) (fun y => ?_))
        · have h2 := nI_pos (n := p.1) (by omega)
          have z2 : nI p.1 = -2 := z
          rw [z2] at h2
          exact h2 (by decide)
        · rw [if_pos y] at h1; exact nm_r (nI_1 i) h1
        · rw [if_neg (by omega)] at h1; exact nm_r (nI_1 i) h1
theorem my_best {post : Int32 → SY → Prop} (hok : mr_ok cl) (hw : mr_wok tt) (h : kn ≠ 0 → mr_kn cl ec cc fo fw)
    (hp : ∀ (ec cc kn : Int32) (ed fo fw : Nat → Int32), (kn ≠ 0 → mr_kn cl ec cc fo fw) → post (if mr_Y cl tt (-1) = 0 then -2 else mr_bf (mr_bst cl tt 20)) (tt, ec, cc, kn, sm, sf, cl, mr_nb, ed, fo, fw)) :
    wpY_best post (tt, ec, cc, kn, sm, sf, cl, mr_nb, ed, fo, fw) := by
  unfold wpY_best
  refine my_count hok hw h fun ec cc kn ed fo fw h => ek_if mr_Y0 (fun e => ?_) (fun e => Exists.intro 21 (my_best_l hok hw ?_ 20 0 ec cc kn ed fo fw rfl h))
  · have := hp ec cc kn ed fo fw h
    rw [if_pos e] at this; exact this
  · rw [if_neg e] at hp; exact hp
theorem my_clues_l {post : Int32 → SY → Prop} (hok : mr_ok cl) (hw : mr_wok tt) {c : Nat} (hc : c < 20) (hv : cl c = -1)
    (hp : ∀ (ec cc : Int32) (ed fo fw : Nat → Int32), post (mr_acc (mr_PC cl tt c) 9) (tt, ec, cc, 0, sm, sf, cl, mr_nb, ed, fo, fw)) :
    ∀ (d i : Nat) (ec cc kn : Int32) (cl' ed fo fw : Nat → Int32), i + d = 9 → (∀ v, upd cl' c v = upd cl c v) → wY_clues_25 post (nI c) (d + 1) (mr_acc (mr_PC cl tt c) i) (nI i) tt ec cc kn sm sf cl' mr_nb ed fo fw := by
  have hk : (nI c).toNatClampNeg = c := nI_clamp (by omega)
  have hin : vp_in (nI c) 20 := pk_in c 20 hc
  intro d
  induction d with
  | zero =>
    intro i ec cc kn cl' ed fo fw hi hu
    have : i = 9 := by omega
    subst this
    refine pk_le 9 9 (fun _ => And.intro hin (nm_r (e' := cl) ?_ (hp _ _ _ _ _))) (fun h => absurd h (by omega))
    rw [hk, hu, mr_u_id hv]
  | succ d ih =>
    intro i ec cc kn cl' ed fo fw hi hu
    refine pk_le 9 i (fun h => absurd h (by omega)) (fun _ => And.intro hin (nm_r (e' := upd cl c (nI i)) (by rw [hk, hu]) ?_))
    refine my_count (mr_ok_u hok (by omega)) hw (fun z => absurd rfl z) fun ec cc kn ed fo fw _ => ?_
    have h1 := ih (i + 1) ec cc kn (upd cl c (nI i)) ed fo fw (by omega) (fun v => mr_uu _ _ _ _)
    have hl := mr_Y_le (upd cl c (nI i)) tt (-1)
    refine pk_le (mr_Y (upd cl c (nI i)) tt (-1)) 0 (fun h => ?_) (fun h => ?_)
    · rw [mr_acc_f (decide_eq_false (by omega))] at h1
      exact nm_r (nI_1 i) h1
    · rw [mr_acc_t (decide_eq_true h)] at h1
      exact nm_e (nm_r (nI_1 i) h1)
theorem my_wm35 {post : Int32 → SY → Prop} {n : Nat} (hn : n < 21) (hk : mr_kn cl ec cc fo fw) (hp : post (nI (mr_sums cl (-1) n)) (tt, ec, cc, kn, sm, sf, cl, nr, ed, fo, fw)) : ∀ (d i : Nat), i + d = 21 →
    wY_withMines_35 post (nI n) tt ec cc kn sm sf cl nr ed fo fw (d + 1) (nI (mr_sm (fun a => mr_b (a ≤ n) * (mr_F cl (-1) a * mr_C (mr_pc (mr_rest cl)) (n - a))) i)) (nI i) := by
  intro d
  induction d with
  | zero =>
    intro i hi
    have : i = 21 := by omega
    subst this
    refine pk_le 21 21 (fun _ => ?_) (fun h => absurd h (by omega))
    unfold mr_sums mr_cj at hp
    rw [mr_fx_n] at hp
    exact hp
  | succ d ih =>
    intro i hi
    have h1 := ih (i + 1) (by omega)
    have hcl : (nI i).toNatClampNeg = i := nI_clamp (by omega)
    have hl := mr_pc_le (mr_rest cl)
    refine pk_le 21 i (fun h => absurd h (by omega)) (fun _ => And.intro (pk_in i 21 (by omega)) ?_)
    rw [my_rest hk]
    by_cases q : i ≤ n
    · rw [pk_sub q]
      refine my_choices hl (by omega) (nm_r (e' := nI (mr_sm (fun a => mr_b (a ≤ n) * (mr_F cl (-1) a * mr_C (mr_pc (mr_rest cl)) (n - a))) (i + 1))) ?_ (nm_r (nI_1 i) h1))
      rw [hcl, hk.2.2.1 i (by omega), pk_mul, nI_add, mr_sm_s, mr_b_t q, Nat.one_mul]
    · refine my_choices_n (pk_sneg (by omega) (by omega)) (nm_r (e' := nI (mr_sm (fun a => mr_b (a ≤ n) * (mr_F cl (-1) a * mr_C (mr_pc (mr_rest cl)) (n - a))) (i + 1))) ?_ (nm_r (nI_1 i) h1))
      rw [mr_sm_s, mr_b_f q, Nat.zero_mul, Nat.add_zero, Int32.mul_zero, Int32.add_zero]
theorem my_withMines {post : Int32 → SY → Prop} (hok : mr_ok cl) (hw : mr_wok tt) (h : kn ≠ 0 → mr_kn cl ec cc fo fw) {p : Int32}
    (h0 : (p < 0 ∨ nI 21 ≤ p ∨ (tt ≠ -1 ∧ tt ≠ p)) → ∀ (ec cc kn : Int32) (ed fo fw : Nat → Int32), (kn ≠ 0 → mr_kn cl ec cc fo fw) → post 0 (tt, ec, cc, kn, sm, sf, cl, mr_nb, ed, fo, fw))
    (h1 : ∀ n : Nat, n < 21 → p = nI n → (tt = -1 ∨ tt = p) → ∀ (ec cc kn : Int32) (ed fo fw : Nat → Int32), (kn ≠ 0 → mr_kn cl ec cc fo fw) → post (nI (mr_sums cl (-1) n)) (tt, ec, cc, kn, sm, sf, cl, mr_nb, ed, fo, fw)) :
    wpY_withMines post (tt, ec, cc, kn, sm, sf, cl, mr_nb, ed, fo, fw) p := by
  unfold wpY_withMines
  refine my_findAll hok h fun ec cc kn ed fo fw _ hk => ?_
  have ht : tt < 0 ↔ tt = -1 := by
    rcases hw with e | ⟨t, ht, e⟩
    · rw [e]; exact ⟨fun _ => rfl, fun _ => by decide⟩
    · rw [e]; exact ⟨fun z => absurd z (nI_pos (by omega)), fun z => absurd z (mr_n1 (by omega))⟩
  rcases pk_ix p (n := 21) (by omega) with q | q | ⟨n, hn, q⟩
  · exact br_t q (h0 (Or.inl q) ec cc kn ed fo fw fun _ => hk)
  · have z : ¬ p < 0 := fun y => by
      have h2 := Int32.lt_of_le_of_lt q y
      exact absurd h2 (by decide)
    obtain ⟨j, hj, e⟩ := nI_of z
    subst e
    rw [nI_leI (by omega) hj] at q
    exact br_f z (br_t (nI_lt (a := 20) (by omega) hj) (h0 (Or.inr (Or.inl ((nI_leI (by omega) hj).mpr q))) ec cc kn ed fo fw fun _ => hk))
  · subst q
    have yes : (tt = -1 ∨ tt = nI n) → ∃ n35, wY_withMines_35 post (nI n) tt ec cc kn sm sf cl mr_nb ed fo fw n35 0 0 := fun z => Exists.intro 22 (my_wm35 hn hk (h1 n hn rfl z ec cc kn ed fo fw fun _ => hk) 21 0 rfl)
    refine br_f (nI_pos (by omega)) (br_f (nI_nlt (a := 20) (by omega) (by omega)) (ek_if ht (fun z => yes (Or.inl z)) (fun z => br_c (fun y => yes (Or.inr y.symm)) (fun y => h0 (Or.inr (Or.inr ⟨z, fun x => y x.symm⟩)) ec cc kn ed fo fw fun _ => hk))))
end MY
end
section
/-! the relation, and the owed rows -/
def i_Rel (k : Nat) (u : SX) (v : SY) : Prop := match u, v with
  | (w, cv, _, _, _, _, _, _, _, cl, nr, _, _, _, _, _, ch, _, _), (tt, ec, cc, kn, _, _, cl', nr', _, fo, fw) =>
    cv = mr_cov cl ∧ nr = mr_nb ∧ w = tt ∧ cl = cl' ∧ nr' = mr_nb ∧ mr_ok cl ∧ mr_wok w ∧ mr_chk ch ∧ (kn ≠ 0 → mr_kn cl ec cc fo fw)
theorem mr_rel {k : Nat} {w gc rs ce mi dm df ck ec cc kn sm sf : Int32} {cl gs wy ww su sn ch ca sa ed fo fw : Nat → Int32} (hok : mr_ok cl) (hw : mr_wok w) (hch : mr_chk ch) (hkn : kn ≠ 0 → mr_kn cl ec cc fo fw) :
    i_Rel k (w, mr_cov cl, gc, rs, ce, mi, dm, df, ck, cl, mr_nb, gs, wy, ww, su, sn, ch, ca, sa) (w, ec, cc, kn, sm, sf, cl, mr_nb, ed, fo, fw) :=
  And.intro rfl (And.intro rfl (And.intro rfl (And.intro rfl (And.intro rfl (And.intro hok (And.intro hw (And.intro hch hkn)))))))
theorem mr_arg (p : Int32) : (p < 0 ∨ nI 20 ≤ p) ∨ ∃ c : Nat, c < 20 ∧ p = nI c := by
  rcases pk_ix p (n := 20) (by omega) with q | q | q
  · exact Or.inl (Or.inl q)
  · exact Or.inl (Or.inr q)
  · exact Or.inr q
theorem mr_wok_of {p : Int32} (h0 : ¬ p < -1) (h1 : p ≤ 20) : mr_wok p := by
  by_cases q : p < 0
  · refine Or.inl (Int32.toInt_inj.mp ?_)
    rw [Int32.lt_iff_toInt_lt, show (-1 : Int32).toInt = -1 from by decide] at h0
    rw [Int32.lt_iff_toInt_lt, show (0 : Int32).toInt = 0 from by decide] at q
    rw [show (-1 : Int32).toInt = -1 from by decide]
    omega
  · obtain ⟨j, hj, e⟩ := nI_of2 (M := 20) (n := 20) (by decide) q h1
    exact Or.inr ⟨j, hj, e⟩
theorem mr_wm_no {p w : Int32} {n : Nat} (z : p < 0 ∨ nI 21 ≤ p ∨ (w ≠ -1 ∧ w ≠ p)) (hn : n < 21) (e : p = nI n) (y : w = -1 ∨ w = p) : False := by
  rcases z with z | z | z
  · rw [e] at z; exact nI_pos (by omega) z
  · rw [e, nI_leI (by omega) (by omega)] at z; omega
  · exact y.elim z.1 z.2
theorem i_up {k : Nat} {u : SX} {v : SY} (h : i_Rel k u v) : i_Rel (k + 3) u v := h
theorem i_vc0 : wpX_init (fun u => wpY_init (fun v => i_Rel 0 u v)) := mx_init fun _ h => my_init (mr_rel mr_ini_ok (Or.inl rfl) h fun z => absurd rfl z)
theorem i_vc_show {k : Nat} {u : SX} {v : SY} (I : i_Rel k u v) (hk : k + 3 ≤ 1536) (v1 : Int32) (v2 : Int32) : wpX_show (fun r u' => wpY_show (fun r' v' => r' = r ∧ i_Rel (k + 3) u' v') v v1 v2) u v1 v2 := by
  obtain ⟨w, cv, gc, rs, ce, mi, dm, df, ck, cl, nr, gs, wy, ww, su, sn, ch, ca, sa⟩ := u
  obtain ⟨tt, ec, cc, kn, sm, sf, cl', nr', ed, fo, fw⟩ := v
  obtain ⟨rfl, rfl, rfl, rfl, rfl, hok, hw, hch, hkn⟩ := I
  rcases mr_arg v1 with hb | ⟨c, hc, rfl⟩
  · unfold wpX_show
    refine mx_bad1 hb (br_f (by decide) ?_)
    unfold wpY_show
    exact my_cell0 hb (br_t rfl ⟨rfl, mr_rel hok hw hch hkn⟩)
  · unfold wpX_show
    refine mx_bad0 hc (br_t rfl ?_)
    have hkc : (nI c).toNatClampNeg = c := nI_clamp (by omega)
    have hv : vp_in (nI c) 20 := pk_in c 20 hc
    by_cases h0 : v2 < 0
    · refine br_t h0 ?_
      unfold wpY_show
      exact my_cell1 hc (br_f (by decide) (br_t h0 ⟨rfl, mr_rel hok hw hch hkn⟩))
    · by_cases h8 : v2 ≤ 8
      · obtain ⟨m, hm, rfl⟩ := nI_of2 (M := 8) (n := 8) (by decide) h0 h8
        refine br_f h0 (br_t h8 (And.intro hv (nm_r (e' := cl c) (by rw [hkc]) (And.intro hv (nm_r (e' := upd cl c (nI m)) (by rw [hkc]) (mx_refresh ?_))))))
        have ok2 := mr_ok_u hok (c := c) hm
        refine br_c (fun e => ?_) (fun e => ?_)
        · unfold wpY_show
          refine my_cell1 hc (br_f (by decide) (br_f h0 (br_t h8 (And.intro hv (nm_r (e' := cl c) (by rw [hkc]) (And.intro hv (nm_r (e' := upd cl c (nI m)) (by rw [hkc]) (br_f ?_ ⟨rfl, mr_rel ok2 hw hch fun z => absurd rfl z⟩))))))))
          rw [e]; decide
        · unfold wpY_show
          exact my_cell1 hc (br_f (by decide) (br_f h0 (br_t h8 (And.intro hv (nm_r (e' := cl c) (by rw [hkc]) (And.intro hv (nm_r (e' := upd cl c (nI m)) (by rw [hkc]) (br_t ((mr_ge0 hok hc).mpr e) ⟨rfl, mr_rel ok2 hw hch fun z => absurd rfl z⟩))))))))
      · refine br_f h0 (br_f h8 ?_)
        unfold wpY_show
        exact my_cell1 hc (br_f (by decide) (br_f h0 (br_f h8 ⟨rfl, mr_rel hok hw hch hkn⟩)))
theorem i_vc_cover {k : Nat} {u : SX} {v : SY} (I : i_Rel k u v) (hk : k + 3 ≤ 1536) (v1 : Int32) : wpX_cover (fun r u' => wpY_cover (fun r' v' => r' = r ∧ i_Rel (k + 3) u' v') v v1) u v1 := by
  obtain ⟨w, cv, gc, rs, ce, mi, dm, df, ck, cl, nr, gs, wy, ww, su, sn, ch, ca, sa⟩ := u
  obtain ⟨tt, ec, cc, kn, sm, sf, cl', nr', ed, fo, fw⟩ := v
  obtain ⟨rfl, rfl, rfl, rfl, rfl, hok, hw, hch, hkn⟩ := I
  rcases mr_arg v1 with hb | ⟨c, hc, rfl⟩
  · unfold wpX_cover
    refine mx_bad1 hb (br_f (by decide) ?_)
    unfold wpY_cover
    exact my_cell0 hb (br_t rfl ⟨rfl, mr_rel hok hw hch hkn⟩)
  · unfold wpX_cover
    refine mx_bad0 hc (br_t rfl ?_)
    have hkc : (nI c).toNatClampNeg = c := nI_clamp (by omega)
    have hv : vp_in (nI c) 20 := pk_in c 20 hc
    refine And.intro hv (br_c (fun e => ?_) (fun e => ?_))
    · rw [hkc] at e
      unfold wpY_cover
      refine my_cell1 hc (br_f (by decide) (And.intro hv (nm_r (e' := cl c) (by rw [hkc]) (And.intro hv (nm_r (e' := cl) (by rw [hkc]; exact mr_u_id e) (br_f ?_ ⟨rfl, mr_rel hok hw hch fun z => absurd rfl z⟩))))))
      rw [e]; decide
    · rw [hkc] at e
      refine And.intro hv (nm_r (e' := cl c) (by rw [hkc]) (And.intro hv (nm_r (e' := upd cl c (-1)) (by rw [hkc]) (mx_refresh ?_))))
      have ok2 := mr_ok_u1 hok (c := c)
      unfold wpY_cover
      exact my_cell1 hc (br_f (by decide) (And.intro hv (nm_r (e' := cl c) (by rw [hkc]) (And.intro hv (nm_r (e' := upd cl c (-1)) (by rw [hkc]) (br_t ((mr_ge0 hok hc).mpr e) ⟨rfl, mr_rel ok2 hw hch fun z => absurd rfl z⟩))))))
theorem i_vc_total {k : Nat} {u : SX} {v : SY} (I : i_Rel k u v) (hk : k + 3 ≤ 1536) (v1 : Int32) : wpX_total (fun r u' => wpY_total (fun r' v' => r' = r ∧ i_Rel (k + 3) u' v') v v1) u v1 := by
  obtain ⟨w, cv, gc, rs, ce, mi, dm, df, ck, cl, nr, gs, wy, ww, su, sn, ch, ca, sa⟩ := u
  obtain ⟨tt, ec, cc, kn, sm, sf, cl', nr', ed, fo, fw⟩ := v
  obtain ⟨rfl, rfl, rfl, rfl, rfl, hok, hw, hch, hkn⟩ := I
  by_cases h0 : v1 < -1
  · exact br_t h0 (br_t h0 ⟨rfl, mr_rel hok hw hch hkn⟩)
  · by_cases h1 : v1 ≤ 20
    · exact br_f h0 (br_t h1 (br_f h0 (br_t h1 ⟨rfl, mr_rel hok (mr_wok_of h0 h1) hch hkn⟩)))
    · exact br_f h0 (br_f h1 (br_f h0 (br_f h1 ⟨rfl, mr_rel hok hw hch hkn⟩)))
theorem i_vc_clue {k : Nat} {u : SX} {v : SY} (I : i_Rel k u v) (hk : k + 3 ≤ 1536) (v1 : Int32) : wpX_clue (fun r => wpY_clue (fun r' => r' = r ∧ i_Rel (k + 3) u v) v v1) u v1 := by
  obtain ⟨w, cv, gc, rs, ce, mi, dm, df, ck, cl, nr, gs, wy, ww, su, sn, ch, ca, sa⟩ := u
  obtain ⟨tt, ec, cc, kn, sm, sf, cl', nr', ed, fo, fw⟩ := v
  obtain ⟨rfl, rfl, rfl, rfl, rfl, hok, hw, hch, hkn⟩ := I
  rcases mr_arg v1 with hb | ⟨c, hc, rfl⟩
  · unfold wpX_clue
    refine mx_bad1 hb (br_f (by decide) ?_)
    unfold wpY_clue
    exact my_cell0 hb (br_t rfl ⟨rfl, mr_rel hok hw hch hkn⟩)
  · unfold wpX_clue
    refine mx_bad0 hc (br_t rfl ?_)
    have hkc : (nI c).toNatClampNeg = c := nI_clamp (by omega)
    have hv : vp_in (nI c) 20 := pk_in c 20 hc
    refine And.intro hv (br_c (fun e => ?_) (fun e => And.intro hv ?_))
    · rw [hkc] at e
      unfold wpY_clue
      refine my_cell1 hc (br_f (by decide) (And.intro hv (br_f ?_ ⟨rfl, mr_rel hok hw hch hkn⟩)))
      rw [hkc, e]; decide
    · rw [hkc] at e
      unfold wpY_clue
      refine my_cell1 hc (br_f (by decide) (And.intro hv (br_t ?_ (And.intro hv ⟨rfl, mr_rel hok hw hch hkn⟩))))
      rw [hkc]; exact (mr_ge0 hok hc).mpr e
theorem i_vc_groups {k : Nat} {u : SX} {v : SY} (I : i_Rel k u v) (hk : k + 3 ≤ 1536) : wpX_groups (fun r u' => wpY_groups (fun r' => r' = r ∧ i_Rel (k + 3) u' v) v) u := by
  obtain ⟨w, cv, gc, rs, ce, mi, dm, df, ck, cl, nr, gs, wy, ww, su, sn, ch, ca, sa⟩ := u
  obtain ⟨tt, ec, cc, kn, sm, sf, cl', nr', ed, fo, fw⟩ := v
  obtain ⟨rfl, rfl, rfl, rfl, rfl, hok, hw, hch, hkn⟩ := I
  exact mx_groups fun k' gs' => my_groups hok ⟨rfl, mr_rel hok hw hch hkn⟩
theorem i_vc_groupOf {k : Nat} {u : SX} {v : SY} (I : i_Rel k u v) (hk : k + 3 ≤ 1536) (v1 : Int32) : wpX_groupOf (fun r u' => wpY_groupOf (fun r' => r' = r ∧ i_Rel (k + 3) u' v) v v1) u v1 := by
  obtain ⟨w, cv, gc, rs, ce, mi, dm, df, ck, cl, nr, gs, wy, ww, su, sn, ch, ca, sa⟩ := u
  obtain ⟨tt, ec, cc, kn, sm, sf, cl', nr', ed, fo, fw⟩ := v
  obtain ⟨rfl, rfl, rfl, rfl, rfl, hok, hw, hch, hkn⟩ := I
  rcases mr_arg v1 with hb | ⟨c, hc, rfl⟩
  · unfold wpX_groupOf
    refine mx_bad1 hb (br_f (by decide) ?_)
    unfold wpY_groupOf
    exact my_cell0 hb (br_t rfl ⟨rfl, mr_rel hok hw hch hkn⟩)
  · exact mx_groupOf1 hc fun k' gs' => my_groupOf1 hok hc ⟨rfl, mr_rel hok hw hch hkn⟩
theorem i_vc_layouts {k : Nat} {u : SX} {v : SY} (I : i_Rel k u v) (hk : k + 3 ≤ 1536) : wpX_layouts (fun r u' => wpY_layouts (fun r' v' => r' = r ∧ i_Rel (k + 3) u' v') v) u := by
  obtain ⟨w, cv, gc, rs, ce, mi, dm, df, ck, cl, nr, gs, wy, ww, su, sn, ch, ca, sa⟩ := u
  obtain ⟨tt, ec, cc, kn, sm, sf, cl', nr', ed, fo, fw⟩ := v
  obtain ⟨rfl, rfl, rfl, rfl, rfl, hok, hw, hch, hkn⟩ := I
  refine mx_lay hok hw hch fun gc rs ce mi gs wy ww su sn ca sa => ?_
  unfold wpY_layouts
  exact my_count hok hw hkn fun ec cc kn ed fo fw h => ⟨rfl, mr_rel hok hw hch h⟩
theorem i_vc_mined {k : Nat} {u : SX} {v : SY} (I : i_Rel k u v) (hk : k + 3 ≤ 1536) (v1 : Int32) : wpX_mined (fun r u' => wpY_mined (fun r' v' => r' = r ∧ i_Rel (k + 3) u' v') v v1) u v1 := by
  obtain ⟨w, cv, gc, rs, ce, mi, dm, df, ck, cl, nr, gs, wy, ww, su, sn, ch, ca, sa⟩ := u
  obtain ⟨tt, ec, cc, kn, sm, sf, cl', nr', ed, fo, fw⟩ := v
  obtain ⟨rfl, rfl, rfl, rfl, rfl, hok, hw, hch, hkn⟩ := I
  rcases mr_arg v1 with hb | ⟨c, hc, rfl⟩
  · unfold wpX_mined
    refine mx_bad1 hb (br_f (by decide) ?_)
    unfold wpY_mined
    exact my_cell0 hb (br_t rfl ⟨rfl, mr_rel hok hw hch hkn⟩)
  · unfold wpX_mined
    refine mx_bad0 hc (br_t rfl (mx_min hok hw hch hc (fun e => ?_) (fun e gc rs ce mi gs wy ww su sn ca sa => ?_)))
    · unfold wpY_mined
      exact my_cell1 hc (br_f (by decide) (my_mined1 hok hw hc hkn (fun _ ec cc kn ed fo fw h => ⟨rfl, mr_rel hok hw hch h⟩) (fun e2 => absurd e2 e)))
    · unfold wpY_mined
      exact my_cell1 hc (br_f (by decide) (my_mined1 hok hw hc hkn (fun e2 => absurd e e2) (fun _ ec cc kn ed fo fw h => ⟨rfl, mr_rel hok hw hch h⟩)))
theorem i_vc_free {k : Nat} {u : SX} {v : SY} (I : i_Rel k u v) (hk : k + 3 ≤ 1536) : wpX_free (fun r u' => wpY_free (fun r' v' => r' = r ∧ i_Rel (k + 3) u' v') v) u := by
  obtain ⟨w, cv, gc, rs, ce, mi, dm, df, ck, cl, nr, gs, wy, ww, su, sn, ch, ca, sa⟩ := u
  obtain ⟨tt, ec, cc, kn, sm, sf, cl', nr', ed, fo, fw⟩ := v
  obtain ⟨rfl, rfl, rfl, rfl, rfl, hok, hw, hch, hkn⟩ := I
  exact mx_free hok hw hch fun gc rs ce mi gs wy ww su sn ca sa => my_free hok hw hkn fun ec cc kn ed fo fw h => ⟨rfl, mr_rel hok hw hch h⟩
theorem i_vc_sure {k : Nat} {u : SX} {v : SY} (I : i_Rel k u v) (hk : k + 3 ≤ 1536) : wpX_sure (fun r u' => wpY_sure (fun r' v' => r' = r ∧ i_Rel (k + 3) u' v') v) u := by
  obtain ⟨w, cv, gc, rs, ce, mi, dm, df, ck, cl, nr, gs, wy, ww, su, sn, ch, ca, sa⟩ := u
  obtain ⟨tt, ec, cc, kn, sm, sf, cl', nr', ed, fo, fw⟩ := v
  obtain ⟨rfl, rfl, rfl, rfl, rfl, hok, hw, hch, hkn⟩ := I
  exact mx_sure hok hw hch fun gc rs ce mi gs wy ww su sn ca sa => my_sure hok hw hkn fun ec cc kn ed fo fw h => ⟨rfl, mr_rel hok hw hch h⟩
theorem i_vc_best {k : Nat} {u : SX} {v : SY} (I : i_Rel k u v) (hk : k + 3 ≤ 1536) : wpX_best (fun r u' => wpY_best (fun r' v' => r' = r ∧ i_Rel (k + 3) u' v') v) u := by
  obtain ⟨w, cv, gc, rs, ce, mi, dm, df, ck, cl, nr, gs, wy, ww, su, sn, ch, ca, sa⟩ := u
  obtain ⟨tt, ec, cc, kn, sm, sf, cl', nr', ed, fo, fw⟩ := v
  obtain ⟨rfl, rfl, rfl, rfl, rfl, hok, hw, hch, hkn⟩ := I
  exact mx_best hok hw hch fun gc rs ce mi gs wy ww su sn ca sa => my_best hok hw hkn fun ec cc kn ed fo fw h => ⟨rfl, mr_rel hok hw hch h⟩
theorem i_vc_clues {k : Nat} {u : SX} {v : SY} (I : i_Rel k u v) (hk : k + 3 ≤ 1536) (v1 : Int32) : wpX_clues (fun r u' => wpY_clues (fun r' v' => r' = r ∧ i_Rel (k + 3) u' v') v v1) u v1 := by
  obtain ⟨w, cv, gc, rs, ce, mi, dm, df, ck, cl, nr, gs, wy, ww, su, sn, ch, ca, sa⟩ := u
  obtain ⟨tt, ec, cc, kn, sm, sf, cl', nr', ed, fo, fw⟩ := v
  obtain ⟨rfl, rfl, rfl, rfl, rfl, hok, hw, hch, hkn⟩ := I
  rcases mr_arg v1 with hb | ⟨c, hc, rfl⟩
  · unfold wpX_clues
    refine mx_bad1 hb (br_f (by decide) ?_)
    unfold wpY_clues
    exact my_cell0 hb (br_t rfl ⟨rfl, mr_rel hok hw hch hkn⟩)
  · unfold wpX_clues
    refine mx_bad0 hc (br_t rfl ?_)
    have hkc : (nI c).toNatClampNeg = c := nI_clamp (by omega)
    have hv : vp_in (nI c) 20 := pk_in c 20 hc
    refine And.intro hv (br_c (fun e => ?_) (fun e => ?_))
    · rw [hkc] at e
      refine Exists.intro 10 (mx_clues_l hok hw hch hc e (fun gc rs ce mi gs wy ww su sn ca sa => ?_) 9 0 _ _ _ _ _ cl _ _ _ _ _ _ _ rfl (fun _ => rfl))
      unfold wpY_clues
      refine my_cell1 hc (br_f (by decide) (And.intro hv (br_t ?_ (Exists.intro 10 (my_clues_l hok hw hc e (fun ec cc ed fo fw => ⟨rfl, mr_rel hok hw hch fun z => absurd rfl z⟩) 9 0 _ _ _ cl _ _ _ rfl (fun _ => rfl))))))
      rw [hkc]; exact (mr_lt0 hok hc).mpr e
    · rw [hkc] at e
      unfold wpY_clues
      refine my_cell1 hc (br_f (by decide) (And.intro hv (br_f ?_ ⟨rfl, mr_rel hok hw hch hkn⟩)))
      rw [hkc]; exact fun z => e ((mr_lt0 hok hc).mp z)
theorem i_vc_withMines {k : Nat} {u : SX} {v : SY} (I : i_Rel k u v) (hk : k + 3 ≤ 1536) (v1 : Int32) : wpX_withMines (fun r u' => wpY_withMines (fun r' v' => r' = r ∧ i_Rel (k + 3) u' v') v v1) u v1 := by
  obtain ⟨w, cv, gc, rs, ce, mi, dm, df, ck, cl, nr, gs, wy, ww, su, sn, ch, ca, sa⟩ := u
  obtain ⟨tt, ec, cc, kn, sm, sf, cl', nr', ed, fo, fw⟩ := v
  obtain ⟨rfl, rfl, rfl, rfl, rfl, hok, hw, hch, hkn⟩ := I
  refine mx_withMines hok hch (fun z gc rs ce mi gs wy ww su sn ca sa => ?_) (fun n hn e z gc rs ce mi gs wy ww su sn ca sa => ?_)
  · exact my_withMines hok hw hkn (fun _ ec cc kn ed fo fw h => ⟨rfl, mr_rel hok hw hch h⟩) (fun n hn e y => absurd (mr_wm_no z hn e y) id)
  · refine my_withMines hok hw hkn (fun y => absurd (mr_wm_no y hn e z) id) (fun m hm e2 _ ec cc kn ed fo fw h => ?_)
    have : m = n := (nI_eq (by omega) (by omega)).mp (e2.symm.trans e)
    subst this
    exact ⟨rfl, mr_rel hok hw hch h⟩
theorem i_vc_simple {k : Nat} {u : SX} {v : SY} (I : i_Rel k u v) (hk : k + 3 ≤ 1536) : wpX_simple (fun r u' => wpY_simple (fun r' v' => r' = r ∧ i_Rel (k + 3) u' v') v) u := by
  obtain ⟨w, cv, gc, rs, ce, mi, dm, df, ck, cl, nr, gs, wy, ww, su, sn, ch, ca, sa⟩ := u
  obtain ⟨tt, ec, cc, kn, sm, sf, cl', nr', ed, fo, fw⟩ := v
  obtain ⟨rfl, rfl, rfl, rfl, rfl, hok, hw, hch, hkn⟩ := I
  unfold wpX_simple
  refine mx_rules (bo := False) hok (Or.inl ⟨rfl, id⟩) (fun M F hn => ?_) (fun M F hC hB => ?_)
  · unfold wpX_decidedCount
    refine br_f (by decide) ?_
    unfold wpY_simple
    exact my_decide (bo := False) hok (Or.inl ⟨rfl, id⟩) (fun M F _ => ⟨rfl, mr_rel hok hw hch hkn⟩) (fun M F hC _ => absurd hC (hn M F))
  · unfold wpX_decidedCount
    refine br_t rfl (mx_bits (mr_W_or hB.1.1 hB.1.2.1) ?_)
    unfold wpY_simple
    refine my_decide (bo := False) hok (Or.inl ⟨rfl, id⟩) (fun _ _ hn => absurd hC (hn M F)) (fun M' F' hC' hB' => ?_)
    obtain ⟨rfl, rfl⟩ := mr_Cz_u hC hB hC' hB'
    exact ⟨rfl, mr_rel hok hw hch hkn⟩
theorem i_vc_paired {k : Nat} {u : SX} {v : SY} (I : i_Rel k u v) (hk : k + 3 ≤ 1536) : wpX_paired (fun r u' => wpY_paired (fun r' v' => r' = r ∧ i_Rel (k + 3) u' v') v) u := by
  obtain ⟨w, cv, gc, rs, ce, mi, dm, df, ck, cl, nr, gs, wy, ww, su, sn, ch, ca, sa⟩ := u
  obtain ⟨tt, ec, cc, kn, sm, sf, cl', nr', ed, fo, fw⟩ := v
  obtain ⟨rfl, rfl, rfl, rfl, rfl, hok, hw, hch, hkn⟩ := I
  unfold wpX_paired
  refine mx_rules (bo := True) hok (Or.inr ⟨by decide, trivial⟩) (fun M F hn => ?_) (fun M F hC hB => ?_)
  · unfold wpX_decidedCount
    refine br_f (by decide) ?_
    unfold wpY_paired
    exact my_decide (bo := True) hok (Or.inr ⟨by decide, trivial⟩) (fun M F _ => ⟨rfl, mr_rel hok hw hch hkn⟩) (fun M F hC _ => absurd hC (hn M F))
  · unfold wpX_decidedCount
    refine br_t rfl (mx_bits (mr_W_or hB.1.1 hB.1.2.1) ?_)
    unfold wpY_paired
    refine my_decide (bo := True) hok (Or.inr ⟨by decide, trivial⟩) (fun _ _ hn => absurd hC (hn M F)) (fun M' F' hC' hB' => ?_)
    obtain ⟨rfl, rfl⟩ := mr_Cz_u hC hB hC' hB'
    exact ⟨rfl, mr_rel hok hw hch hkn⟩
theorem i_vc_decided {k : Nat} {u : SX} {v : SY} (I : i_Rel k u v) (hk : k + 3 ≤ 1536) (v1 : Int32) : wpX_decided (fun r u' => wpY_decided (fun r' v' => r' = r ∧ i_Rel (k + 3) u' v') v v1) u v1 := by
  obtain ⟨w, cv, gc, rs, ce, mi, dm, df, ck, cl, nr, gs, wy, ww, su, sn, ch, ca, sa⟩ := u
  obtain ⟨tt, ec, cc, kn, sm, sf, cl', nr', ed, fo, fw⟩ := v
  obtain ⟨rfl, rfl, rfl, rfl, rfl, hok, hw, hch, hkn⟩ := I
  rcases mr_arg v1 with hb | ⟨c, hc, rfl⟩
  · unfold wpX_decided
    refine mx_bad1 hb (br_f (by decide) ?_)
    unfold wpY_decided
    exact my_cell0 hb (br_t rfl ⟨rfl, mr_rel hok hw hch hkn⟩)
  · unfold wpX_decided
    refine mx_bad0 hc (br_t rfl (mx_rules (bo := True) hok (Or.inr ⟨by decide, trivial⟩) (fun M F hn => br_f (by decide) ?_) (fun M F hC hB => br_t rfl ?_)))
    · unfold wpY_decided
      exact my_cell1 hc (br_f (by decide) (my_decide (bo := True) hok (Or.inr ⟨by decide, trivial⟩) (fun M F _ => br_t rfl ⟨rfl, mr_rel hok hw hch hkn⟩) (fun M F hC _ => absurd hC (hn M F))))
    · have key : ∀ r : Int32, (bt M c = true → r = 1) → (bt M c = false → bt F c = true → r = 0) → (bt M c = false → bt F c = false → r = -2) → ∀ u' : SX, i_Rel (k + 3) u' (w, ec, cc, kn, M, F, cl, mr_nb, ed, fo, fw) → wpY_decided (fun r' v' => r' = r ∧ i_Rel (k + 3) u' v') (w, ec, cc, kn, sm, sf, cl, mr_nb, ed, fo, fw) (nI c) := by
        intro r k1 k2 k3 u' hu
        unfold wpY_decided
        refine my_cell1 hc (br_f (by decide) (my_decide (bo := True) hok (Or.inr ⟨by decide, trivial⟩) (fun _ _ hn => absurd hC (hn M F)) (fun M' F' hC' hB' => ?_)))
        obtain ⟨rfl, rfl⟩ := mr_Cz_u hC hB hC' hB'
        refine br_f (fun z => ?_) (ek_if (mr_has (by omega)) (fun m => ⟨(k1 m).symm, hu⟩) (fun m => ek_if (mr_has (by omega)) (fun m2 => ⟨(k2 (mr_fof m) m2).symm, hu⟩) (fun m2 => ⟨(k3 (mr_fof m) (mr_fof m2)).symm, hu⟩)))
        have h2 := nI_pos (n := mr_pc (M' ||| F')) (by have := mr_pc_le (M' ||| F'); omega)
        rw [z] at h2
        exact h2 (by decide)
      refine mx_has (by omega) (fun m => br_f (by decide) (key 1 (fun _ => rfl) (fun z => ?_) (fun z => ?_) _ (mr_rel hok hw hch hkn))) (fun m => br_t rfl (mx_has (by omega) (fun m2 => br_f (by decide) (key 0 (fun z => ?_) (fun _ _ => rfl) (fun _ z => ?_) _ (mr_rel hok hw hch hkn))) (fun m2 => br_t rfl (key (-2) (fun z => ?_) (fun _ z => ?_) (fun _ _ => rfl) _ (mr_rel hok hw hch hkn)))))
      · rw [m] at z; exact absurd z (by decide)
      · rw [m] at z; exact absurd z (by decide)
      · rw [m] at z; exact absurd z (by decide)
      · rw [m2] at z; exact absurd z (by decide)
      · rw [m] at z; exact absurd z (by decide)
      · rw [m2] at z; exact absurd z (by decide)
end
