section
theorem pk_us {f : Nat → Int32} {k : Nat} {x : Int32} : upd f k x k = x := if_pos rfl
theorem pk_un {f : Nat → Int32} {k j : Nat} {x : Int32} (h : j ≠ k) : upd f k x j = f j := if_neg h
theorem pk_sub {a b : Nat} (h : b ≤ a) : nI a - nI b = nI (a - b) := by
  obtain ⟨c, rfl⟩ : ∃ c, a = c + b := ⟨a - b, by omega⟩
  rw [← nI_add, Int32.add_sub_cancel, Nat.add_sub_cancel]
theorem pk_mul (a b : Nat) : nI a * nI b = nI (a * b) := (Int32.ofNat_mul a b).symm
theorem pk_div {a d : Nat} (ha : a < 2 ^ 31) (h0 : 0 < d) (hd : d < 2 ^ 31) : nI a / nI d = nI (a / d) := by
  apply Int32.toInt_inj.mp
  rw [lg_idiv_nonneg (by rw [nI_toInt ha]; omega) (by rw [nI_toInt hd]; omega), nI_toInt ha, nI_toInt hd, nI_toInt (Nat.lt_of_le_of_lt (Nat.div_le_self a d) ha)]
  first | rfl | exact (Int.natCast_ediv _ _).symm
theorem pk_rem {a d : Nat} (ha : a < 2 ^ 31) (h0 : 0 < d) (hd : d < 2 ^ 31) : nI a - nI a / nI d * nI d = nI (a % d) := by
  rw [pk_div ha h0 hd, pk_mul, pk_sub (Nat.div_mul_le_self a d)]
  exact congrArg nI (by have := Nat.div_add_mod' a d; omega)
theorem pk_le {x y : Int32} {A B : Prop} (a b : Nat) (f : a ≤ b → A) (g : b < a → B) (hx : x = nI a := by rfl) (hy : y = nI b := by rfl) (ha : a < 2 ^ 31 := by omega) (hb : b < 2 ^ 31 := by omega) : (x ≤ y → A) ∧ (¬ x ≤ y → B) := by
  subst hx hy
  rw [nI_leI ha hb]
  exact ⟨f, fun z => g (by omega)⟩
theorem pk_lt {x y : Int32} {A B : Prop} (a b : Nat) (f : a < b → A) (g : b ≤ a → B) (hx : x = nI a := by rfl) (hy : y = nI b := by rfl) (ha : a < 2 ^ 31 := by omega) (hb : b < 2 ^ 31 := by omega) : (x < y → A) ∧ (¬ x < y → B) := by
  subst hx hy
  rw [nI_ltI ha hb]
  exact ⟨f, fun z => g (by omega)⟩
theorem pk_eq {x y : Int32} {A B : Prop} (a b : Nat) (f : a = b → A) (g : a ≠ b → B) (hx : x = nI a := by rfl) (hy : y = nI b := by rfl) (ha : a < 2 ^ 31 := by omega) (hb : b < 2 ^ 31 := by omega) : (x = y → A) ∧ (¬ x = y → B) := by
  subst hx hy
  rw [nI_eq ha hb]
  exact ⟨f, g⟩
theorem pk_in {x : Int32} (n N : Nat) (h : n < N) (hx : x = nI n := by rfl) (hN : N < 2 ^ 31 := by omega) : vp_in x N := by
  subst hx
  exact vp_in_nI h hN
theorem pk_cl {x : Int32} (n : Nat) (hx : x = nI n := by rfl) (h : n < 2 ^ 31 := by omega) : x.toNatClampNeg = n := by
  subst hx
  exact nI_clamp h
theorem pk_tn {n : Nat} (h : n < 2 ^ 32) : (nI n).toBitVec.toNat = n := Nat.mod_eq_of_lt h
theorem pk_and (x : Int32) {m : Int32} (k : Nat) (hm : m.toBitVec.toNat = 2 ^ k - 1) : x &&& m = nI (x.toBitVec.toNat % 2 ^ k) := by
  apply Int32.toBitVec_inj.mp
  apply BitVec.eq_of_toNat_eq
  rw [Int32.toBitVec_and, BitVec.toNat_and, hm, Nat.and_two_pow_sub_one_eq_mod]
  show _ = (BitVec.ofNat 32 _).toNat
  rw [BitVec.toNat_ofNat]
  exact (Nat.mod_eq_of_lt (Nat.lt_of_le_of_lt (Nat.mod_le _ _) x.toBitVec.isLt)).symm
theorem pk_andN {n : Nat} (h : n < 2 ^ 32) {m : Int32} (k : Nat) (hm : m.toBitVec.toNat = 2 ^ k - 1) : nI n &&& m = nI (n % 2 ^ k) := by
  rw [pk_and _ k hm, pk_tn h]
theorem pk_shl (a s : Int32) (k : Nat) (hs : (s.toBitVec.smod 32).toNat = k) : (a <<< s).toBitVec.toNat = a.toBitVec.toNat * 2 ^ k % 2 ^ 32 := by
  show (a.toBitVec <<< (s.toBitVec.smod 32).toNat).toNat = _
  rw [hs, BitVec.toNat_shiftLeft, Nat.shiftLeft_eq]
theorem pk_shlN {n : Nat} (s : Int32) (k : Nat) (hs : (s.toBitVec.smod 32).toNat = k) (h : n * 2 ^ k < 2 ^ 32) : nI n <<< s = nI (n * 2 ^ k) := by
  apply Int32.toBitVec_inj.mp
  apply BitVec.eq_of_toNat_eq
  have hn : n < 2 ^ 32 := Nat.lt_of_le_of_lt (Nat.le_mul_of_pos_right n (Nat.two_pow_pos k)) h
  rw [pk_shl _ _ k hs, pk_tn hn, pk_tn h, Nat.mod_eq_of_lt h]
theorem pk_shr (a s : Int32) (k : Nat) (hs : (s.toBitVec.smod 32).toNat = k) : (a >>> s).toInt = a.toInt >>> k := by
  show (a.toBitVec.sshiftRight (s.toBitVec.smod 32).toNat).toInt = _
  rw [hs, BitVec.toInt_sshiftRight]
  rfl
theorem pk_shrN {n : Nat} (h : n < 2 ^ 31) (s : Int32) (k : Nat) (hs : (s.toBitVec.smod 32).toNat = k) : nI n >>> s = nI (n / 2 ^ k) := by
  apply Int32.toInt_inj.mp
  have h2 : n / 2 ^ k ≤ n := Nat.div_le_self _ _
  rw [pk_shr _ _ k hs, nI_toInt h, nI_toInt (by omega), Int.shiftRight_eq_div_pow]
  rfl
def bt (x : Int32) (i : Nat) : Bool := x.toBitVec.getLsbD i
theorem b_ext {x y : Int32} (h : ∀ i, i < 32 → bt x i = bt y i) : x = y := Int32.toBitVec_inj.mp (BitVec.eq_of_getLsbD_eq (fun i hi => h i hi))
theorem b_or (x y : Int32) (i : Nat) : bt (x ||| y) i = (bt x i || bt y i) := by unfold bt; rw [Int32.toBitVec_or, BitVec.getLsbD_or]
theorem b_and (x y : Int32) (i : Nat) : bt (x &&& y) i = (bt x i && bt y i) := by unfold bt; rw [Int32.toBitVec_and, BitVec.getLsbD_and]
theorem b_0 (i : Nat) : bt 0 i = false := BitVec.getLsbD_zero
theorem s_l : ∀ n, n < 32 → ((nI n &&& 31).toBitVec.smod 32).toNat = n := by decide +kernel
theorem b_shl (n : Nat) (hn : n < 32) (x : Int32) {i : Nat} (hi : i < 32) : bt (x <<< (nI n &&& 31)) i = (decide (n ≤ i) && bt x (i - n)) := by
  unfold bt
  rw [Int32.toBitVec_shiftLeft]
  show (x.toBitVec <<< ((nI n &&& 31).toBitVec.smod 32).toNat).getLsbD i = _
  rw [s_l n hn, BitVec.getLsbD_shiftLeft]
  rcases Nat.lt_or_ge i n with h | h
  · simp [h, Nat.not_le.mpr h]
  · simp [hi, h, Nat.not_lt.mpr h]
theorem b_sshr (n : Nat) (hn : n < 32) (x : Int32) {i : Nat} (hi : i < 32) : bt (x >>> (nI n &&& 31)) i = if n + i < 32 then bt x (n + i) else bt x 31 := by
  unfold bt
  rw [Int32.toBitVec_shiftRight]
  show (x.toBitVec.sshiftRight ((nI n &&& 31).toBitVec.smod 32).toNat).getLsbD i = _
  rw [s_l n hn, BitVec.getLsbD_sshiftRight, BitVec.msb_eq_getLsbD_last]
  simp [hi]
theorem nx_and (a b : Nat) : nI a &&& nI b = nI (a &&& b) := by
  apply Int32.toBitVec_inj.1
  show BitVec.ofNat 32 a &&& BitVec.ofNat 32 b = BitVec.ofNat 32 (a &&& b)
  apply BitVec.eq_of_getLsbD_eq
  intro i hi
  simp [hi]
theorem nx_xor (a b : Nat) : nI a ^^^ nI b = nI (a ^^^ b) := by
  apply Int32.toBitVec_inj.1
  show BitVec.ofNat 32 a ^^^ BitVec.ofNat 32 b = BitVec.ofNat 32 (a ^^^ b)
  apply BitVec.eq_of_getLsbD_eq
  intro i hi
  simp [hi]
end
section
theorem sh_or (a b : Nat) : nI a ||| nI b = nI (a ||| b) := by
  apply Int32.toBitVec_inj.1
  show BitVec.ofNat 32 a ||| BitVec.ofNat 32 b = BitVec.ofNat 32 (a ||| b)
  apply BitVec.eq_of_getLsbD_eq
  intro i hi
  simp [hi]
theorem sh_2 (n : Nat) : (2 : Int32) * nI n = nI (2 * n) := pk_mul 2 n
theorem sh_p (i : Nat) : 2 ^ (2 * i) = 4 ^ i := by
  rw [Nat.pow_mul, show (2 : Nat) ^ 2 = 4 from rfl]
theorem sh_le4 {i j : Nat} (h : i ≤ j) : 4 ^ i ≤ 4 ^ j := Nat.pow_le_pow_right (by decide) h
theorem sh_p0 (i : Nat) : 0 < 4 ^ i := Nat.pow_pos (by decide)
theorem sh_le6 {i : Nat} (h : i ≤ 6) : 4 ^ i ≤ 4096 := sh_le4 h
theorem sh_shl {i g : Nat} (hi : i < 7) (hg : g < 4) : nI g <<< ((2 * nI i) &&& 31) = nI (g * 4 ^ i) := by
  have h6 : 4 ^ i ≤ 4096 := sh_le6 (by omega)
  have h7 : g * 4 ^ i ≤ 4 * 4096 := Nat.mul_le_mul (by omega) h6
  rw [sh_2, pk_shlN _ (2 * i) (s_l (2 * i) (by omega)) (by rw [sh_p]; omega), sh_p]
theorem sh_shr {d i : Nat} (hd : d < 2 ^ 31) (hi : i < 16) : nI d >>> ((2 * nI i) &&& 31) = nI (d / 4 ^ i) := by
  rw [sh_2, pk_shrN hd _ (2 * i) (s_l (2 * i) (by omega)), sh_p]
theorem sh_and3 {d : Nat} (hd : d < 2 ^ 31) : nI d &&& 3 = nI (d % 4) := by
  have h := pk_andN (n := d) (by omega) (m := 3) 2 (by decide)
  exact h
theorem sh_part {s i : Nat} (hs : s < 320) (hi : i < 3) : (nI s >>> ((2 * nI i) &&& 31)) &&& 3 = nI (s / 4 ^ i % 4) := by
  have h : s / 4 ^ i ≤ s := Nat.div_le_self _ _
  rw [sh_shr (by omega) (by omega), sh_and3 (by omega)]
theorem sh_at {n d i : Nat} (hd : d < 2 ^ 31) (hi : i < n) (hn : n ≤ 6) : (nI d >>> ((2 * ((nI n - 1) - nI i)) &&& 31)) &&& 3 = nI (d / 4 ^ (n - (i + 1)) % 4) := by
  have e : (nI n - 1) - nI i = nI (n - (i + 1)) := by
    rw [show (1 : Int32) = nI 1 from rfl, pk_sub (by omega), pk_sub (by omega)]
    exact congrArg nI (by omega)
  have h : d / 4 ^ (n - (i + 1)) ≤ d := Nat.div_le_self _ _
  rw [e, sh_shr hd (by omega), sh_and3 (by omega)]
theorem sh_1shl {n : Nat} (hn : n < 7) : (1 : Int32) <<< ((2 * nI n) &&& 31) = nI (4 ^ n) :=
  (sh_shl (g := 1) hn (by decide)).trans (congrArg nI (Nat.one_mul _))
theorem sh_6r {s : Nat} (h : s < 2 ^ 31) : nI s >>> ((6 : Int32) &&& 31) = nI (s / 64) := pk_shrN h _ 6 (by decide)
theorem sh_6l {x : Nat} (h : x < 4) : nI x <<< ((6 : Int32) &&& 31) = nI (64 * x) := by
  rw [pk_shlN _ 6 (by decide) (by omega)]
  exact congrArg nI (by omega)
theorem sh_orT : ∀ i, i < 3 → ∀ g, g < 4 → ∀ v, v < 256 → v % 64 < 4 ^ i → v ||| (g * 4 ^ i) = v + g * 4 ^ i := by decide +kernel
theorem sh_orN {i g v : Nat} (hi : i < 3) (hg : g < 4) (hv : v < 256) (h : v % 64 < 4 ^ i) : nI v ||| (nI g <<< ((2 * nI i) &&& 31)) = nI (v + g * 4 ^ i) := by
  rw [sh_shl (by omega) hg, sh_or, sh_orT i hi g hg v hv h]
theorem sh_x1T : ∀ s, s < 4 → s ^^^ 1 < 4 := by decide
theorem sh_x1 (s : Nat) : nI s ^^^ 1 = nI (s ^^^ 1) := nx_xor s 1
/-- a boolean as an int -/
def sh_b : Bool → Int32
  | true => 1
  | false => 0
theorem sh_bt {P : Int32 → Prop} {q : Bool} (e : q = true) (h : P (sh_b q)) : P 1 := by subst e; exact h
theorem sh_bf {P : Int32 → Prop} {q : Bool} (e : q = false) (h : P (sh_b q)) : P 0 := by subst e; exact h
theorem sh_v {P : Int32 → Prop} {a b : Nat} (e : a = b) (h : P (nI a)) : P (nI b) := e ▸ h
theorem sh_b0 {q : Bool} (h : sh_b q = 0) : q = false := by
  cases q
  · rfl
  · exact absurd h (by decide)
theorem sh_b1 {q : Bool} (h : ¬ sh_b q = 0) : q = true := by
  cases q
  · exact absurd rfl h
  · rfl
theorem sh_br {q : Bool} {A B : Prop} (f : q = false → A) (g : q = true → B) : (sh_b q = 0 → A) ∧ (¬ sh_b q = 0 → B) := ⟨fun h => f (sh_b0 h), fun h => g (sh_b1 h)⟩
theorem sh_nb (q : Bool) : narrow .boolean (.int (sh_b q)) = .int (sh_b q) := by
  cases q <;> rfl
/-- the bits of a word -/
theorem sh_bt1 : ∀ i, i < 32 → bt 1 i = decide (i = 0) := by decide +kernel
theorem sh_bit (x : Int32) {j : Nat} (hj : j < 32) : ((x >>> (nI j &&& 31)) &&& 1) = 1 ↔ bt x j = true := by
  constructor
  · intro h
    have e : bt ((x >>> (nI j &&& 31)) &&& 1) 0 = bt 1 0 := by rw [h]
    rw [b_and, b_sshr j hj x (by omega), sh_bt1 0 (by omega), if_pos (by omega)] at e
    simpa using e
  · intro h
    apply b_ext
    intro i hi
    rw [b_and, sh_bt1 i hi]
    by_cases z : i = 0
    · subst z
      rw [b_sshr j hj x (by omega), if_pos (by omega), Nat.add_zero, h]
      rfl
    · rw [decide_eq_false z, Bool.and_false]
/-- whether number k is marked -/
def sh_F (mk : Nat → Int32) (k : Nat) : Bool := bt (mk (k / 32)) (k % 32)
theorem sh_Fset (mk : Nat → Int32) (k j : Nat) : sh_F (upd mk (k / 32) (mk (k / 32) ||| ((1 : Int32) <<< (nI (k % 32) &&& 31)))) j = (sh_F mk j || decide (j = k)) := by
  unfold sh_F
  by_cases e : j / 32 = k / 32
  · rw [e, pk_us, b_or, b_shl (k % 32) (Nat.mod_lt _ (by decide)) 1 (Nat.mod_lt _ (by decide))]
    by_cases z : j = k
    · subst z
      rw [sh_bt1 _ (by omega), Nat.sub_self]
      simp
    · rw [decide_eq_false z]
      by_cases y : k % 32 ≤ j % 32
      · rw [sh_bt1 _ (by omega), decide_eq_false (p := j % 32 - k % 32 = 0) (by omega), Bool.and_false]
      · rw [decide_eq_false y, Bool.false_and]
  · rw [pk_un e, decide_eq_false (by intro z; exact e (by rw [z])), Bool.or_false]
end
section
/-- how many j < m have P -/
def sh_ct (P : Nat → Bool) : Nat → Nat
  | 0 => 0
  | m + 1 => sh_ct P m + (P m).toNat
/-- the sum of f below t -/
def sh_so (f : Nat → Nat) : Nat → Nat
  | 0 => 0
  | t + 1 => sh_so f t + f t
/-- all i < c have P -/
def sh_al (P : Nat → Bool) : Nat → Bool
  | 0 => true
  | c + 1 => sh_al P c && P c
theorem sh_al_f {P : Nat → Bool} {i : Nat} (h : P i = false) : ∀ c, i < c → sh_al P c = false := by
  intro c
  induction c with
  | zero => intro z; omega
  | succ c ih =>
    intro z
    show (sh_al P c && P c) = false
    rcases Nat.lt_or_eq_of_le (Nat.le_of_lt_succ z) with y | y
    · rw [ih y, Bool.false_and]
    · rw [← y, h, Bool.and_false]
theorem sh_al_c {P Q : Nat → Bool} : ∀ c, (∀ i, i < c → P i = Q i) → sh_al P c = sh_al Q c := by
  intro c
  induction c with
  | zero => intro _; rfl
  | succ c ih =>
    intro h
    show (sh_al P c && P c) = (sh_al Q c && Q c)
    rw [ih (fun i hi => h i (by omega)), h c (by omega)]
theorem sh_ct_add (P : Nat → Bool) (a : Nat) : ∀ m, sh_ct P (a + m) = sh_ct P a + sh_ct (fun j => P (a + j)) m := by
  intro m
  induction m with
  | zero => rfl
  | succ m ih =>
    show sh_ct P (a + m) + (P (a + m)).toNat = sh_ct P a + (sh_ct (fun j => P (a + j)) m + (P (a + m)).toNat)
    rw [ih, Nat.add_assoc]
theorem sh_ct_c {P Q : Nat → Bool} : ∀ m, (∀ j, j < m → P j = Q j) → sh_ct P m = sh_ct Q m := by
  intro m
  induction m with
  | zero => intro _; rfl
  | succ m ih =>
    intro h
    show sh_ct P m + (P m).toNat = sh_ct Q m + (Q m).toNat
    rw [ih (fun j hj => h j (by omega)), h m (by omega)]
theorem sh_ct_0 {P : Nat → Bool} : ∀ m, (∀ j, j < m → P j = false) → sh_ct P m = 0 := by
  intro m
  induction m with
  | zero => intro _; rfl
  | succ m ih =>
    intro h
    show sh_ct P m + (P m).toNat = 0
    rw [ih (fun j hj => h j (by omega)), h m (by omega)]
    rfl
theorem sh_ct_le (P : Nat → Bool) : ∀ m, sh_ct P m ≤ m := by
  intro m
  induction m with
  | zero => exact Nat.le_refl _
  | succ m ih =>
    show sh_ct P m + (P m).toNat ≤ m + 1
    have := Bool.toNat_le (P m)
    omega
theorem sh_ct_mono (P : Nat → Bool) {a b : Nat} (h : a ≤ b) : sh_ct P a ≤ sh_ct P b := by
  obtain ⟨m, rfl⟩ : ∃ m, b = a + m := ⟨b - a, by omega⟩
  rw [sh_ct_add]
  omega
theorem sh_ct_t {P : Nat → Bool} {m : Nat} (h : P m = true) : sh_ct P (m + 1) = sh_ct P m + 1 := by
  show sh_ct P m + (P m).toNat = _
  rw [h]
  rfl
theorem sh_ct_f {P : Nat → Bool} {m : Nat} (h : P m = false) : sh_ct P (m + 1) = sh_ct P m := by
  show sh_ct P m + (P m).toNat = _
  rw [h]
  rfl
theorem sh_so_mono (f : Nat → Nat) {a b : Nat} (h : a ≤ b) : sh_so f a ≤ sh_so f b := by
  obtain ⟨m, rfl⟩ : ∃ m, b = a + m := ⟨b - a, by omega⟩
  clear h
  induction m with
  | zero => exact Nat.le_refl _
  | succ m ih =>
    show _ ≤ sh_so f (a + m) + f (a + m)
    omega
/-- the state behind list d of length n -/
def sh_st (nx : Nat → Nat → Nat) : Nat → Nat → Nat
  | 0, _ => 256
  | n + 1, d => nx (sh_st nx n (d / 4)) (d % 4)
/-- in how many ways k more elements lead from state s to a failing list -/
def sh_w (nx : Nat → Nat → Nat) (ac : Nat → Bool) : Nat → Nat → Nat
  | 0, s => (ac s).toNat
  | k + 1, s => sh_so (fun x => sh_w nx ac k (nx s x)) 4
/-- whether list d of length n fails -/
def sh_fl (nx : Nat → Nat → Nat) (ac : Nat → Bool) (n d : Nat) : Bool := ac (sh_st nx n d)
/-- the number of the first list of length n -/
def sh_sa : Nat → Nat
  | 0 => 0
  | n + 1 => sh_sa n + 4 ^ n
/-- how many failing lists are shorter than n -/
def sh_T (nx : Nat → Nat → Nat) (ac : Nat → Bool) : Nat → Nat := sh_so (fun k => sh_w nx ac k 256)
section
variable {nx : Nat → Nat → Nat} {ac : Nat → Bool}
theorem sh_st_s {n p x : Nat} (hx : x < 4) : sh_st nx (n + 1) (4 * p + x) = nx (sh_st nx n p) x := by
  show nx (sh_st nx n ((4 * p + x) / 4)) ((4 * p + x) % 4) = _
  rw [show (4 * p + x) / 4 = p by omega, show (4 * p + x) % 4 = x by omega]
theorem sh_ar (p t q e : Nat) : p * (q * 4) + (t * q + e) = (4 * p + t) * q + e := by
  rw [Nat.add_mul, Nat.mul_comm q 4, ← Nat.mul_assoc, Nat.mul_comm p 4, Nat.add_assoc]
theorem sh_tp0 (k : Nat) (ih : ∀ n p, sh_ct (fun e => sh_fl nx ac (n + k) (p * 4 ^ k + e)) (4 ^ k) = sh_w nx ac k (sh_st nx n p)) (n p : Nat) : ∀ t, t ≤ 4 → sh_ct (fun e => sh_fl nx ac (n + (k + 1)) (p * 4 ^ (k + 1) + e)) (t * 4 ^ k) = sh_so (fun x => sh_w nx ac k (nx (sh_st nx n p) x)) t := by
  intro t
  induction t with
  | zero => intro _; rw [Nat.zero_mul]; rfl
  | succ t it =>
    intro ht
    rw [Nat.succ_mul, sh_ct_add, it (by omega)]
    show _ = sh_so (fun x => sh_w nx ac k (nx (sh_st nx n p) x)) t + sh_w nx ac k (nx (sh_st nx n p) t)
    rw [← sh_st_s (nx := nx) (n := n) (p := p) (x := t) (by omega), ← ih (n + 1) (4 * p + t)]
    refine congrArg _ (sh_ct_c _ (fun e _ => ?_))
    show sh_fl nx ac (n + (k + 1)) (p * 4 ^ (k + 1) + (t * 4 ^ k + e)) = sh_fl nx ac (n + 1 + k) ((4 * p + t) * 4 ^ k + e)
    rw [Nat.pow_succ, sh_ar, show n + (k + 1) = n + 1 + k by omega]
theorem sh_blk : ∀ k n p, sh_ct (fun e => sh_fl nx ac (n + k) (p * 4 ^ k + e)) (4 ^ k) = sh_w nx ac k (sh_st nx n p) := by
  intro k
  induction k with
  | zero =>
    intro n p
    show 0 + (sh_fl nx ac n (p * 1 + 0)).toNat = (ac (sh_st nx n p)).toNat
    rw [Nat.zero_add, Nat.mul_one, Nat.add_zero]
    rfl
  | succ k ih =>
    intro n p
    rw [show 4 ^ (k + 1) = 4 * 4 ^ k by rw [Nat.pow_succ, Nat.mul_comm]]
    have h := sh_tp0 k ih n p 4 (Nat.le_refl 4)
    rw [show 4 ^ (k + 1) = 4 * 4 ^ k by rw [Nat.pow_succ, Nat.mul_comm]] at h
    exact h
theorem sh_top (k n p : Nat) {t : Nat} (ht : t ≤ 4) : sh_ct (sh_fl nx ac (n + (k + 1))) (p * 4 ^ (k + 1) + t * 4 ^ k) = sh_ct (sh_fl nx ac (n + (k + 1))) (p * 4 ^ (k + 1)) + sh_so (fun x => sh_w nx ac k (nx (sh_st nx n p) x)) t := by
  rw [sh_ct_add, sh_tp0 k (sh_blk k) n p t ht]
theorem sh_lev (n : Nat) : sh_ct (sh_fl nx ac n) (4 ^ n) = sh_w nx ac n 256 := by
  have h := sh_blk (nx := nx) (ac := ac) n 0 0
  rw [Nat.zero_add, Nat.zero_mul] at h
  rw [show sh_w nx ac n 256 = sh_w nx ac n (sh_st nx 0 0) from rfl, ← h]
  exact sh_ct_c _ (fun e _ => by rw [Nat.zero_add])
/-- the marks are those of the failing lists -/
def sh_MO (nx : Nat → Nat → Nat) (ac : Nat → Bool) (F : Nat → Bool) : Prop := ∀ n d, n ≤ 6 → d < 4 ^ n → F (sh_sa n + d) = sh_fl nx ac n d
theorem sh_lv0 {F : Nat → Bool} (hF : sh_MO nx ac F) : ∀ n, n ≤ 7 → sh_ct F (sh_sa n) = sh_T nx ac n := by
  intro n
  induction n with
  | zero => intro _; rfl
  | succ n ih =>
    intro hn
    show sh_ct F (sh_sa n + 4 ^ n) = sh_T nx ac n + sh_w nx ac n 256
    rw [sh_ct_add, ih (by omega), ← sh_lev n]
    exact congrArg _ (sh_ct_c _ (fun e he => hF n e (by omega) he))
theorem sh_lv {F : Nat → Bool} (hF : sh_MO nx ac F) {n d : Nat} (hn : n ≤ 6) (hd : d ≤ 4 ^ n) : sh_ct F (sh_sa n + d) = sh_T nx ac n + sh_ct (sh_fl nx ac n) d := by
  rw [sh_ct_add, sh_lv0 hF n (by omega)]
  exact congrArg _ (sh_ct_c _ (fun e he => hF n e hn (by omega)))
/-- the lists of length n + k that begin with p -/
theorem sh_ext (n k p : Nat) (hp : p < 4 ^ n) : sh_ct (fun d => sh_fl nx ac (n + k) d && decide (d / 4 ^ k = p)) (4 ^ (n + k)) = sh_w nx ac k (sh_st nx n p) := by
  have hq : 0 < 4 ^ k := sh_p0 k
  obtain ⟨r, hr⟩ : ∃ r, 4 ^ n = p + 1 + r := ⟨4 ^ n - (p + 1), by omega⟩
  rw [Nat.pow_add, hr, Nat.add_mul, Nat.add_mul, Nat.one_mul, sh_ct_add, sh_ct_add, ← sh_blk k n p]
  rw [sh_ct_0 (p * 4 ^ k) (fun j hj => ?_), sh_ct_0 (r * 4 ^ k) (fun j hj => ?_), Nat.zero_add, Nat.add_zero]
  · refine sh_ct_c _ (fun e he => ?_)
    show (sh_fl nx ac (n + k) (p * 4 ^ k + e) && decide ((p * 4 ^ k + e) / 4 ^ k = p)) = sh_fl nx ac (n + k) (p * 4 ^ k + e)
    rw [decide_eq_true, Bool.and_true]
    rw [Nat.mul_comm, Nat.mul_add_div hq, Nat.div_eq_of_lt he, Nat.add_zero]
  · show (_ && decide ((p * 4 ^ k + 4 ^ k + j) / 4 ^ k = p)) = false
    rw [decide_eq_false, Bool.and_false]
    rw [show p * 4 ^ k + 4 ^ k + j = 4 ^ k * (p + 1) + j by rw [Nat.mul_comm, Nat.mul_add, Nat.mul_one], Nat.mul_add_div hq]
    generalize j / 4 ^ k = y
    omega
  · show (_ && decide (j / 4 ^ k = p)) = false
    rw [decide_eq_false, Bool.and_false]
    have : j / 4 ^ k < p := (Nat.div_lt_iff_lt_mul hq).mpr hj
    omega
end
/-! the words of the reference, by the last element -/
def sh_la : Nat → Nat → Nat
  | 0, _ => 4
  | _ + 1, d => d % 4
def sh_sm : Nat → Nat → Nat
  | 0, _ => 0
  | n + 1, d => sh_sm n (d / 4) + d % 4
def sh_oc (a : Nat) : Nat → Nat → Nat
  | 0, _ => 0
  | n + 1, d => sh_oc a n (d / 4) + (if d % 4 = a then 1 else 0)
def sh_pr (a b : Nat) : Nat → Nat → Bool
  | 0, _ => false
  | n + 1, d => sh_pr a b n (d / 4) || (decide (sh_la n (d / 4) = a) && decide (d % 4 = b))
def sh_rs : Nat → Nat → Bool
  | 0, _ => false
  | n + 1, d => sh_rs n (d / 4) || decide (sh_la n (d / 4) < d % 4)
/-- one condition's step -/
def sh_go (k a b s l x : Nat) : Nat :=
  if k = 0 then (s + x) % a
  else if k = 1 then (if x = a ∧ s < b then s + 1 else s)
  else if k = 2 then (if x = a ∧ s ≤ b then s + 1 else s)
  else if k = 3 then (if l = a ∧ x = b then 1 else s)
  else if k = 4 then (if l = a ∧ x = b then 1 else s)
  else if k = 5 then (if l = 4 then (if x < a then 2 else 1) else s)
  else if k = 6 then 0
  else if k = 7 then (if s < a then s + 1 else s)
  else if k = 8 then (if l < x then 1 else s)
  else (if x = a then s ^^^ 1 else s)
def sh_ac (k a b s l : Nat) : Bool :=
  if k = 0 then decide (s = b)
  else if k = 1 then decide (s = b)
  else if k = 2 then decide (s ≤ b)
  else if k = 3 then decide (s = 1)
  else if k = 4 then decide (s = 0)
  else if k = 5 then decide (s = 1)
  else if k = 6 then decide (l ≠ 4 ∧ a ≤ l)
  else if k = 7 then decide (s = a)
  else if k = 8 then decide (s = 1)
  else decide (s = b)
/-- one condition by its words -/
def sh_me (k a b n d : Nat) : Bool :=
  if k = 0 then decide (sh_sm n d % a = b)
  else if k = 1 then decide (b ≤ sh_oc a n d)
  else if k = 2 then decide (sh_oc a n d ≤ b)
  else if k = 3 then sh_pr a b n d
  else if k = 4 then !(sh_pr a b n d)
  else if k = 5 then decide (0 < n ∧ a ≤ d / 4 ^ (n - 1) % 4)
  else if k = 6 then decide (0 < n ∧ a ≤ d % 4)
  else if k = 7 then decide (a ≤ n)
  else if k = 8 then sh_rs n d
  else decide (sh_oc a n d % 2 = b)
/-- one condition's part behind a list -/
def sh_cs (k a b : Nat) : Nat → Nat → Nat
  | 0, _ => 0
  | n + 1, d => sh_go k a b (sh_cs k a b n (d / 4)) (sh_la n (d / 4)) (d % 4)
/-- what it is -/
def sh_se (k a b n d : Nat) : Nat :=
  if k = 0 then sh_sm n d % a
  else if k = 1 then (if sh_oc a n d < b then sh_oc a n d else b)
  else if k = 2 then (if sh_oc a n d ≤ b then sh_oc a n d else b + 1)
  else if k = 3 then (sh_pr a b n d).toNat
  else if k = 4 then (sh_pr a b n d).toNat
  else if k = 5 then (if n = 0 then 0 else if d / 4 ^ (n - 1) % 4 < a then 2 else 1)
  else if k = 6 then 0
  else if k = 7 then (if n < a then n else a)
  else if k = 8 then (sh_rs n d).toNat
  else sh_oc a n d % 2
/-- good numbers -/
def sh_Gn (k a b : Nat) : Prop := k ≤ 9 ∧ (k ≠ 8 → a ≤ 4) ∧ (k ≠ 8 → k ≠ 0 → a ≤ 3) ∧ (k = 0 → 2 ≤ a ∧ b < a) ∧ (k = 1 → 1 ≤ b ∧ b ≤ 3) ∧ (k = 2 → b ≤ 2) ∧ (k = 3 → b ≤ 3) ∧ (k = 4 → b ≤ 3) ∧ (k = 9 → b ≤ 1)
theorem sh_k10 {k : Nat} (h : k ≤ 9) : k = 0 ∨ k = 1 ∨ k = 2 ∨ k = 3 ∨ k = 4 ∨ k = 5 ∨ k = 6 ∨ k = 7 ∨ k = 8 ∨ k = 9 := by omega
theorem sh_go_lt {k a b s l x : Nat} (G : sh_Gn k a b) (hs : s < 4) : sh_go k a b s l x < 4 := by
  obtain ⟨g0, g1, g2, g3, g4, g5, g6, g7, g8⟩ := G
  rcases sh_k10 g0 with rfl | rfl | rfl | rfl | rfl | rfl | rfl | rfl | rfl | rfl
  · have h := g3 rfl
    have h1 := g1 (by decide)
    have := Nat.mod_lt (s + x) (y := a) (by omega)
    show (s + x) % a < 4
    omega
  · have h := g4 rfl
    show (if x = a ∧ s < b then s + 1 else s) < 4
    split <;> omega
  · have h := g5 rfl
    show (if x = a ∧ s ≤ b then s + 1 else s) < 4
    split <;> omega
  · show (if l = a ∧ x = b then 1 else s) < 4
    split <;> omega
  · show (if l = a ∧ x = b then 1 else s) < 4
    split <;> omega
  · show (if l = 4 then (if x < a then 2 else 1) else s) < 4
    split
    · split <;> omega
    · omega
  · show 0 < 4
    omega
  · have h := g2 (by decide) (by decide)
    show (if s < a then s + 1 else s) < 4
    split <;> omega
  · show (if l < x then 1 else s) < 4
    split <;> omega
  · show (if x = a then s ^^^ 1 else s) < 4
    split
    · exact sh_x1T s hs
    · omega
end
section
theorem sh_se0 {k a b d : Nat} (G : sh_Gn k a b) : sh_se k a b 0 d = 0 := by
  obtain ⟨g0, g1, g2, g3, g4, g5, g6, g7, g8⟩ := G
  rcases sh_k10 g0 with rfl | rfl | rfl | rfl | rfl | rfl | rfl | rfl | rfl | rfl
  · exact Nat.zero_mod a
  · have h := g4 rfl
    show (if 0 < b then 0 else b) = 0
    rw [if_pos (by omega)]
  · show (if 0 ≤ b then 0 else b + 1) = 0
    rw [if_pos (by omega)]
  · rfl
  · rfl
  · rfl
  · rfl
  · show (if 0 < a then 0 else a) = 0
    split <;> omega
  · rfl
  · rfl
theorem sh_cap1 (o x a b : Nat) : (if o + (if x = a then 1 else 0) < b then o + (if x = a then 1 else 0) else b) = (if x = a ∧ (if o < b then o else b) < b then (if o < b then o else b) + 1 else (if o < b then o else b)) := by
  by_cases hx : x = a
  · rw [if_pos hx]
    by_cases ho : o < b
    · rw [if_pos ho, if_pos (c := x = a ∧ o < b) ⟨hx, ho⟩]
      split <;> omega
    · rw [if_neg ho, if_neg (c := x = a ∧ b < b) (fun z => Nat.lt_irrefl b z.2), if_neg (c := o + 1 < b) (by omega)]
  · rw [if_neg hx, Nat.add_zero, if_neg (c := x = a ∧ (if o < b then o else b) < b) (fun z => hx z.1)]
theorem sh_cap2 (o x a b : Nat) : (if o + (if x = a then 1 else 0) ≤ b then o + (if x = a then 1 else 0) else b + 1) = (if x = a ∧ (if o ≤ b then o else b + 1) ≤ b then (if o ≤ b then o else b + 1) + 1 else (if o ≤ b then o else b + 1)) := by
  by_cases hx : x = a
  · rw [if_pos hx]
    by_cases ho : o ≤ b
    · rw [if_pos ho, if_pos (c := x = a ∧ o ≤ b) ⟨hx, ho⟩]
      split <;> omega
    · rw [if_neg ho, if_neg (c := x = a ∧ b + 1 ≤ b) (fun z => Nat.not_succ_le_self b z.2), if_neg (c := o + 1 ≤ b) (by omega)]
  · rw [if_neg hx, Nat.add_zero, if_neg (c := x = a ∧ (if o ≤ b then o else b + 1) ≤ b) (fun z => hx z.1)]
theorem sh_bor (p : Bool) (l a x b : Nat) : (p || (decide (l = a) && decide (x = b))).toNat = (if l = a ∧ x = b then 1 else p.toNat) := by
  by_cases h : l = a ∧ x = b
  · rw [if_pos h, decide_eq_true h.1, decide_eq_true h.2, Bool.and_true, Bool.or_true]
    rfl
  · rw [if_neg h, ← Bool.decide_and, decide_eq_false h, Bool.or_false]
theorem sh_bor1 (p : Bool) (l x : Nat) : (p || decide (l < x)).toNat = (if l < x then 1 else p.toNat) := by
  by_cases h : l < x
  · rw [if_pos h, decide_eq_true h, Bool.or_true]
    rfl
  · rw [if_neg h, decide_eq_false h, Bool.or_false]
theorem sh_par (o : Nat) : (o + 1) % 2 = (o % 2) ^^^ 1 := by
  rcases Nat.mod_two_eq_zero_or_one o with h | h
  · rw [h, show (o + 1) % 2 = 1 by omega]
    rfl
  · rw [h, show (o + 1) % 2 = 0 by omega]
    rfl
theorem sh_capn (n a : Nat) : (if n + 1 < a then n + 1 else a) = (if (if n < a then n else a) < a then (if n < a then n else a) + 1 else (if n < a then n else a)) := by
  by_cases h : n < a
  · rw [if_pos h, if_pos h]
    split <;> omega
  · rw [if_neg h, if_neg (Nat.lt_irrefl a), if_neg (by omega)]
theorem sh_fst (n d a : Nat) : (if n + 1 = 0 then 0 else if d / 4 ^ (n + 1 - 1) % 4 < a then 2 else 1) = (if sh_la n (d / 4) = 4 then (if d % 4 < a then 2 else 1) else (if n = 0 then 0 else if d / 4 / 4 ^ (n - 1) % 4 < a then 2 else 1)) := by
  rw [if_neg (Nat.succ_ne_zero n), Nat.add_sub_cancel]
  cases n with
  | zero =>
    rw [if_pos (show sh_la 0 (d / 4) = 4 from rfl), Nat.pow_zero, Nat.div_one]
  | succ m =>
    have h : ¬ sh_la (m + 1) (d / 4) = 4 := by
      show ¬ d / 4 % 4 = 4
      omega
    rw [if_neg h, if_neg (Nat.succ_ne_zero m), Nat.add_sub_cancel, Nat.div_div_eq_div_mul, Nat.mul_comm 4 (4 ^ m), ← Nat.pow_succ]
theorem sh_se_s {k a b n d : Nat} (G : sh_Gn k a b) : sh_se k a b (n + 1) d = sh_go k a b (sh_se k a b n (d / 4)) (sh_la n (d / 4)) (d % 4) := by
  obtain ⟨g0, g1, g2, g3, g4, g5, g6, g7, g8⟩ := G
  rcases sh_k10 g0 with rfl | rfl | rfl | rfl | rfl | rfl | rfl | rfl | rfl | rfl
  · show (sh_sm n (d / 4) + d % 4) % a = (sh_sm n (d / 4) % a + d % 4) % a
    rw [Nat.mod_add_mod]
  · exact sh_cap1 (sh_oc a n (d / 4)) (d % 4) a b
  · exact sh_cap2 (sh_oc a n (d / 4)) (d % 4) a b
  · exact sh_bor (sh_pr a b n (d / 4)) (sh_la n (d / 4)) a (d % 4) b
  · exact sh_bor (sh_pr a b n (d / 4)) (sh_la n (d / 4)) a (d % 4) b
  · exact sh_fst n d a
  · rfl
  · exact sh_capn n a
  · exact sh_bor1 (sh_rs n (d / 4)) (sh_la n (d / 4)) (d % 4)
  · show (sh_oc a n (d / 4) + (if d % 4 = a then 1 else 0)) % 2 = (if d % 4 = a then (sh_oc a n (d / 4) % 2) ^^^ 1 else sh_oc a n (d / 4) % 2)
    by_cases h : d % 4 = a
    · rw [if_pos h, if_pos h, sh_par]
    · rw [if_neg h, if_neg h, Nat.add_zero]
theorem sh_cs_se {k a b : Nat} (G : sh_Gn k a b) : ∀ n d, sh_cs k a b n d = sh_se k a b n d := by
  intro n
  induction n with
  | zero => intro d; exact (sh_se0 G).symm
  | succ n ih =>
    intro d
    rw [sh_se_s G, ← ih]
    rfl
theorem sh_ac_me {k a b : Nat} (G : sh_Gn k a b) (n d : Nat) : sh_ac k a b (sh_cs k a b n d) (sh_la n d) = sh_me k a b n d := by
  rw [sh_cs_se G]
  obtain ⟨g0, g1, g2, g3, g4, g5, g6, g7, g8⟩ := G
  rcases sh_k10 g0 with rfl | rfl | rfl | rfl | rfl | rfl | rfl | rfl | rfl | rfl
  · rfl
  · show decide ((if sh_oc a n d < b then sh_oc a n d else b) = b) = decide (b ≤ sh_oc a n d)
    exact decide_eq_decide.mpr (by split <;> omega)
  · show decide ((if sh_oc a n d ≤ b then sh_oc a n d else b + 1) ≤ b) = decide (sh_oc a n d ≤ b)
    exact decide_eq_decide.mpr (by split <;> omega)
  · show decide ((sh_pr a b n d).toNat = 1) = sh_pr a b n d
    cases sh_pr a b n d <;> rfl
  · show decide ((sh_pr a b n d).toNat = 0) = !(sh_pr a b n d)
    cases sh_pr a b n d <;> rfl
  · show decide ((if n = 0 then 0 else if d / 4 ^ (n - 1) % 4 < a then 2 else 1) = 1) = decide (0 < n ∧ a ≤ d / 4 ^ (n - 1) % 4)
    refine decide_eq_decide.mpr ?_
    generalize d / 4 ^ (n - 1) % 4 = y
    split
    · omega
    · split <;> omega
  · show decide (sh_la n d ≠ 4 ∧ a ≤ sh_la n d) = decide (0 < n ∧ a ≤ d % 4)
    refine decide_eq_decide.mpr ?_
    cases n with
    | zero => exact ⟨fun z => absurd rfl z.1, fun z => absurd z.1 (Nat.lt_irrefl 0)⟩
    | succ n =>
      show (d % 4 ≠ 4 ∧ a ≤ d % 4) ↔ _
      omega
  · show decide ((if n < a then n else a) = a) = decide (a ≤ n)
    exact decide_eq_decide.mpr (by split <;> omega)
  · show decide ((sh_rs n d).toNat = 1) = sh_rs n d
    cases sh_rs n d <;> rfl
  · rfl
/-- the parts put together -/
def sh_nxa (g : Nat → Nat) (x : Nat) : Nat → Nat
  | 0 => 64 * x
  | i + 1 => sh_nxa g x i + g i * 4 ^ i
theorem sh_nxa_b (g : Nat → Nat) (x : Nat) : ∀ c, (∀ i, i < c → g i < 4) → 64 * x ≤ sh_nxa g x c ∧ sh_nxa g x c < 64 * x + 4 ^ c := by
  intro c
  induction c with
  | zero => intro _; exact ⟨Nat.le_refl _, Nat.lt_succ_self _⟩
  | succ c ih =>
    intro h
    obtain ⟨h1, h2⟩ := ih (fun i hi => h i (by omega))
    have h3 : g c * 4 ^ c ≤ 3 * 4 ^ c := Nat.mul_le_mul_right _ (Nat.le_of_lt_succ (h c (by omega)))
    rw [Nat.pow_succ]
    show 64 * x ≤ sh_nxa g x c + g c * 4 ^ c ∧ sh_nxa g x c + g c * 4 ^ c < _
    generalize 4 ^ c = q at *
    omega
theorem sh_64 {c : Nat} (h : c ≤ 3) : 4 ^ c ≤ 64 := sh_le4 h
theorem sh_nxa_h {g : Nat → Nat} {x c : Nat} (hc : c ≤ 3) (hg : ∀ i, i < c → g i < 4) : sh_nxa g x c / 64 = x := by
  have h := sh_nxa_b g x c hg
  have := sh_64 hc
  omega
theorem sh_nxa_p {g : Nat → Nat} {x c : Nat} (hc : c ≤ 3) (hg : ∀ i, i < c → g i < 4) : ∀ i, i < c → sh_nxa g x c / 4 ^ i % 4 = g i := by
  intro i hi
  have hcc : c = 1 ∨ c = 2 ∨ c = 3 := by omega
  rcases hcc with rfl | rfl | rfl
  · have h0 := hg 0 (by omega)
    have : i = 0 := by omega
    subst this
    show (64 * x + g 0 * 1) / 1 % 4 = g 0
    omega
  · have h0 := hg 0 (by omega)
    have h1 := hg 1 (by omega)
    have hii : i = 0 ∨ i = 1 := by omega
    rcases hii with rfl | rfl
    · show (64 * x + g 0 * 1 + g 1 * 4) / 1 % 4 = g 0
      omega
    · show (64 * x + g 0 * 1 + g 1 * 4) / 4 % 4 = g 1
      omega
  · have h0 := hg 0 (by omega)
    have h1 := hg 1 (by omega)
    have h2 := hg 2 (by omega)
    have hii : i = 0 ∨ i = 1 ∨ i = 2 := by omega
    rcases hii with rfl | rfl | rfl
    · show (64 * x + g 0 * 1 + g 1 * 4 + g 2 * 16) / 1 % 4 = g 0
      omega
    · show (64 * x + g 0 * 1 + g 1 * 4 + g 2 * 16) / 4 % 4 = g 1
      omega
    · show (64 * x + g 0 * 1 + g 1 * 4 + g 2 * 16) / 16 % 4 = g 2
      omega
/-- an int's natural number -/
abbrev sh_n (x : Int32) : Nat := x.toNatClampNeg
def sh_gg (kd na nb : Nat → Int32) (s x i : Nat) : Nat := sh_go (sh_n (kd i)) (sh_n (na i)) (sh_n (nb i)) (s / 4 ^ i % 4) (s / 64) x
def sh_nx (c : Nat) (kd na nb : Nat → Int32) (s x : Nat) : Nat := sh_nxa (sh_gg kd na nb s x) x c
def sh_ai (kd na nb : Nat → Int32) (s i : Nat) : Bool := sh_ac (sh_n (kd i)) (sh_n (na i)) (sh_n (nb i)) (s / 4 ^ i % 4) (s / 64)
def sh_acc (c : Nat) (kd na nb : Nat → Int32) (s : Nat) : Bool := sh_al (sh_ai kd na nb s) c
def sh_mi (kd na nb : Nat → Int32) (n d i : Nat) : Bool := sh_me (sh_n (kd i)) (sh_n (na i)) (sh_n (nb i)) n d
/-- a condition in the arrays with good numbers -/
def sh_Gd (k a b : Int32) : Prop := sh_Gn (sh_n k) (sh_n a) (sh_n b) ∧ k = nI (sh_n k) ∧ (sh_n k ≠ 8 → a = nI (sh_n a)) ∧ (sh_n k ≤ 4 ∨ sh_n k = 9 → b = nI (sh_n b))
def sh_C (c : Nat) (kd na nb : Nat → Int32) : Prop := c ≤ 3 ∧ ∀ i, i < c → sh_Gd (kd i) (na i) (nb i)
section
variable {c : Nat} {kd na nb : Nat → Int32}
theorem sh_gg_lt (H : sh_C c kd na nb) (s x : Nat) : ∀ i, i < c → sh_gg kd na nb s x i < 4 := fun i hi => sh_go_lt (H.2 i hi).1 (Nat.mod_lt _ (by decide))
theorem sh_nx_lt (H : sh_C c kd na nb) (s : Nat) {x : Nat} (hx : x < 4) : sh_nx c kd na nb s x < 256 := by
  have h := sh_nxa_h (x := x) H.1 (sh_gg_lt H s x)
  show sh_nxa (sh_gg kd na nb s x) x c < 256
  omega
theorem sh_la_le (n d : Nat) : sh_la n d ≤ 4 := by
  cases n with
  | zero => exact Nat.le_refl _
  | succ n =>
    show d % 4 ≤ 4
    omega
theorem sh_parts (H : sh_C c kd na nb) : ∀ n d, sh_st (sh_nx c kd na nb) n d / 64 = sh_la n d ∧ ∀ i, i < c → sh_st (sh_nx c kd na nb) n d / 4 ^ i % 4 = sh_cs (sh_n (kd i)) (sh_n (na i)) (sh_n (nb i)) n d := by
  intro n
  induction n with
  | zero =>
    intro d
    refine ⟨show 256 / 64 = 4 from rfl, fun i hi => ?_⟩
    have := H.1
    have hii : i = 0 ∨ i = 1 ∨ i = 2 := by omega
    show 256 / 4 ^ i % 4 = 0
    rcases hii with rfl | rfl | rfl <;> rfl
  | succ n ih =>
    intro d
    obtain ⟨h1, h2⟩ := ih (d / 4)
    refine ⟨sh_nxa_h H.1 (sh_gg_lt H _ _), fun i hi => ?_⟩
    refine (sh_nxa_p H.1 (sh_gg_lt H _ _) i hi).trans ?_
    show sh_go _ _ _ (sh_st (sh_nx c kd na nb) n (d / 4) / 4 ^ i % 4) (sh_st (sh_nx c kd na nb) n (d / 4) / 64) (d % 4) = _
    rw [h1, h2 i hi]
    rfl
theorem sh_st_lt (H : sh_C c kd na nb) (n d : Nat) : sh_st (sh_nx c kd na nb) n d < 320 := by
  have h1 := (sh_parts H n d).1
  have h2 := sh_la_le n d
  omega
theorem sh_fl_me (H : sh_C c kd na nb) (n d : Nat) : sh_fl (sh_nx c kd na nb) (sh_acc c kd na nb) n d = sh_al (sh_mi kd na nb n d) c := by
  obtain ⟨h1, h2⟩ := sh_parts H n d
  refine sh_al_c c (fun i hi => ?_)
  show sh_ac _ _ _ (sh_st (sh_nx c kd na nb) n d / 4 ^ i % 4) (sh_st (sh_nx c kd na nb) n d / 64) = _
  rw [h1, h2 i hi]
  exact sh_ac_me (H.2 i hi).1 n d
end
end
section
section
variable {a b s l x : Nat}
theorem sh_go0 : sh_go 0 a b s l x = (s + x) % a := rfl
theorem sh_go1 : sh_go 1 a b s l x = (if x = a ∧ s < b then s + 1 else s) := rfl
theorem sh_go2 : sh_go 2 a b s l x = (if x = a ∧ s ≤ b then s + 1 else s) := rfl
theorem sh_go3 : sh_go 3 a b s l x = (if l = a ∧ x = b then 1 else s) := rfl
theorem sh_go4 : sh_go 4 a b s l x = (if l = a ∧ x = b then 1 else s) := rfl
theorem sh_go5 : sh_go 5 a b s l x = (if l = 4 then (if x < a then 2 else 1) else s) := rfl
theorem sh_go6 : sh_go 6 a b s l x = 0 := rfl
theorem sh_go7 : sh_go 7 a b s l x = (if s < a then s + 1 else s) := rfl
theorem sh_go8 : sh_go 8 a b s l x = (if l < x then 1 else s) := rfl
theorem sh_go9 : sh_go 9 a b s l x = (if x = a then s ^^^ 1 else s) := rfl
theorem sh_ac0 : sh_ac 0 a b s l = decide (s = b) := rfl
theorem sh_ac1 : sh_ac 1 a b s l = decide (s = b) := rfl
theorem sh_ac2 : sh_ac 2 a b s l = decide (s ≤ b) := rfl
theorem sh_ac3 : sh_ac 3 a b s l = decide (s = 1) := rfl
theorem sh_ac4 : sh_ac 4 a b s l = decide (s = 0) := rfl
theorem sh_ac5 : sh_ac 5 a b s l = decide (s = 1) := rfl
theorem sh_ac6 : sh_ac 6 a b s l = decide (l ≠ 4 ∧ a ≤ l) := rfl
theorem sh_ac7 : sh_ac 7 a b s l = decide (s = a) := rfl
theorem sh_ac8 : sh_ac 8 a b s l = decide (s = 1) := rfl
theorem sh_ac9 : sh_ac 9 a b s l = decide (s = b) := rfl
end
section
variable {f1 fs fl fr : Int32} {kd na nb sg fo wy : Nat → Int32}
theorem sh_goX0 {post : Int32 → Prop} {i s l x K A B : Nat} (hi : i < 3) (hs : s < 4) (hl : l ≤ 4) (hx : x < 4) (G0 : sh_Gn K A B) (ek : kd i = nI K) (ea : K ≠ 8 → na i = nI A) (eb : K ≤ 4 ∨ K = 9 → nb i = nI B) (h : post (nI (sh_go K A B s l x))) : wpX_goOn post (f1, fs, fl, fr, kd, na, nb, sg, fo, wy) (nI i) (nI s) (nI l) (nI x) := by
  have ci : (nI i).toNatClampNeg = i := nI_clamp (by omega)
  have vi : vp_in (nI i) 3 := vp_in_nI hi (by decide)
  unfold wpX_goOn
  dsimp only
  rw [ci]
  refine ⟨vi, fun x5 e5 => ⟨vi, fun x6 e6 => ⟨vi, fun k6 e6k => ?_⟩⟩⟩
  rw [ek] at e6k
  subst e6k
  obtain ⟨g0, g1, g2, g3, g4, g5, g6, g7, g8⟩ := G0
  rcases sh_k10 g0 with rfl | rfl | rfl | rfl | rfl | rfl | rfl | rfl | rfl | rfl
  · rw [ea (by decide)] at e5
    rw [eb (by decide)] at e6
    subst e5 e6
    have h3 := g3 rfl
    have h1 := g1 (by decide)
    have e : (nI s + nI x) - (nI s + nI x) / nI A * nI A = nI ((s + x) % A) := by
      rw [nI_add]
      exact pk_rem (by omega) (by omega) (by omega)
    refine br_f (by decide) (br_f (by decide) (br_t rfl (br_f (nI_nle (by omega) (by omega)) ⟨nI_ne0 (by omega) (by omega), ?_⟩)))
    rw [e]
    exact h
  · rw [ea (by decide)] at e5
    rw [eb (by decide)] at e6
    subst e5 e6
    have h4 := g4 rfl
    have h1 := g1 (by decide)
    refine br_f (by decide) (br_f (by decide) (br_f (by decide) (br_t rfl (pk_eq x A (fun q => pk_le B s (fun z => ?_) (fun z => ?_)) (fun q => ?_)))))
    · exact sh_v (P := post) (sh_go1.trans (if_neg (by omega))) h
    · rw [nI_1]
      exact sh_v (P := post) (sh_go1.trans (if_pos ⟨q, z⟩)) h
    · exact sh_v (P := post) (sh_go1.trans (if_neg (fun z => q z.1))) h
  · rw [ea (by decide)] at e5
    rw [eb (by decide)] at e6
    subst e5 e6
    have h5 := g5 rfl
    have h1 := g1 (by decide)
    refine br_f (by decide) (br_f (by decide) (br_f (by decide) (br_f (by decide) (br_t rfl (pk_eq x A (fun q => pk_lt B s (fun z => ?_) (fun z => ?_)) (fun q => ?_))))))
    · exact sh_v (P := post) (sh_go2.trans (if_neg (by omega))) h
    · rw [nI_1]
      exact sh_v (P := post) (sh_go2.trans (if_pos ⟨q, z⟩)) h
    · exact sh_v (P := post) (sh_go2.trans (if_neg (fun z => q z.1))) h
  · rw [ea (by decide)] at e5
    rw [eb (by decide)] at e6
    subst e5 e6
    have h6 := g6 rfl
    have h1 := g1 (by decide)
    refine br_f (by decide) (br_f (by decide) (br_f (by decide) (br_f (by decide) (br_f (by decide) (br_t rfl ?_)))))
    unfold wX_goOn_131
    refine pk_eq l A (fun q => pk_eq x B (fun z => ?_) (fun z => ?_)) (fun q => ?_)
    · exact sh_v (P := post) (sh_go3.trans (if_pos ⟨q, z⟩)) h
    · exact sh_v (P := post) (sh_go3.trans (if_neg (fun y => z y.2))) h
    · exact sh_v (P := post) (sh_go3.trans (if_neg (fun y => q y.1))) h
  · rw [ea (by decide)] at e5
    rw [eb (by decide)] at e6
    subst e5 e6
    have h7 := g7 rfl
    have h1 := g1 (by decide)
    refine br_f (by decide) (br_f (by decide) (br_f (by decide) (br_f (by decide) (br_f (by decide) (br_f (by decide) (br_t rfl ?_))))))
    unfold wX_goOn_131
    refine pk_eq l A (fun q => pk_eq x B (fun z => ?_) (fun z => ?_)) (fun q => ?_)
    · exact sh_v (P := post) (sh_go4.trans (if_pos ⟨q, z⟩)) h
    · exact sh_v (P := post) (sh_go4.trans (if_neg (fun y => z y.2))) h
    · exact sh_v (P := post) (sh_go4.trans (if_neg (fun y => q y.1))) h
  · rw [ea (by decide)] at e5
    subst e5
    have h1 := g1 (by decide)
    refine br_f (by decide) (br_f (by decide) (br_f (by decide) (br_f (by decide) (br_f (by decide) (br_f (by decide) (br_f (by decide) (br_t rfl (pk_eq l 4 (fun q => pk_lt x A (fun z => ?_) (fun z => ?_)) (fun q => ?_)))))))))
    · exact sh_v (P := post) (b := 2) (sh_go5.trans ((if_pos q).trans (if_pos z))) h
    · exact sh_v (P := post) (b := 1) (sh_go5.trans ((if_pos q).trans (if_neg (by omega)))) h
    · exact sh_v (P := post) (sh_go5.trans (if_neg q)) h
  · refine br_f (by decide) (br_f (by decide) (br_f (by decide) (br_f (by decide) (br_f (by decide) (br_f (by decide) (br_f (by decide) (br_f (by decide) (br_t rfl ?_))))))))
    exact h
  · rw [ea (by decide)] at e5
    subst e5
    have h1 := g1 (by decide)
    refine br_f (by decide) (br_f (by decide) (br_f (by decide) (br_f (by decide) (br_f (by decide) (br_f (by decide) (br_f (by decide) (br_f (by decide) (br_f (by decide) (br_t rfl (pk_le A s (fun z => ?_) (fun z => ?_)))))))))))
    · exact sh_v (P := post) (sh_go7.trans (if_neg (by omega))) h
    · rw [nI_1]
      exact sh_v (P := post) (sh_go7.trans (if_pos z)) h
  · refine br_f (by decide) (br_f (by decide) (br_f (by decide) (br_f (by decide) (br_f (by decide) (br_f (by decide) (br_f (by decide) (br_f (by decide) (br_f (by decide) (br_f (by decide) (br_t rfl (pk_le x l (fun z => ?_) (fun z => ?_))))))))))))
    · exact sh_v (P := post) (sh_go8.trans (if_neg (by omega))) h
    · exact sh_v (P := post) (b := 1) (sh_go8.trans (if_pos z)) h
  · rw [ea (by decide)] at e5
    subst e5
    have h1 := g1 (by decide)
    refine br_f (by decide) (br_t (by decide) (pk_eq x A (fun q => ?_) (fun q => ?_)))
    · rw [sh_x1]
      exact sh_v (P := post) (sh_go9.trans (if_pos q)) h
    · exact sh_v (P := post) (sh_go9.trans (if_neg q)) h
theorem sh_goX {post : Int32 → Prop} {i s l x : Nat} (hi : i < 3) (hs : s < 4) (hl : l ≤ 4) (hx : x < 4) (G : sh_Gd (kd i) (na i) (nb i)) (h : post (nI (sh_go (sh_n (kd i)) (sh_n (na i)) (sh_n (nb i)) s l x))) : wpX_goOn post (f1, fs, fl, fr, kd, na, nb, sg, fo, wy) (nI i) (nI s) (nI l) (nI x) :=
  sh_goX0 hi hs hl hx G.1 G.2.1 G.2.2.1 G.2.2.2 h
theorem sh_acX0 {post : Int32 → Prop} {i s l K A B : Nat} (hi : i < 3) (hs : s < 4) (hl : l ≤ 4) (G0 : sh_Gn K A B) (ek : kd i = nI K) (ea : K ≠ 8 → na i = nI A) (eb : K ≤ 4 ∨ K = 9 → nb i = nI B) (h : post (sh_b (sh_ac K A B s l))) : wpX_accepts post (f1, fs, fl, fr, kd, na, nb, sg, fo, wy) (nI i) (nI s) (nI l) := by
  have ci : (nI i).toNatClampNeg = i := nI_clamp (by omega)
  have vi : vp_in (nI i) 3 := vp_in_nI hi (by decide)
  unfold wpX_accepts
  dsimp only
  rw [ci]
  refine ⟨vi, fun x5 e5 => ⟨vi, fun x6 e6 => ⟨vi, fun k6 e6k => ?_⟩⟩⟩
  rw [ek] at e6k
  subst e6k
  obtain ⟨g0, g1, g2, g3, g4, g5, g6, g7, g8⟩ := G0
  rcases sh_k10 g0 with rfl | rfl | rfl | rfl | rfl | rfl | rfl | rfl | rfl | rfl
  · rw [eb (by decide)] at e6
    subst e6
    have h3 := g3 rfl
    have h1 := g1 (by decide)
    refine br_f (by decide) (br_f (by decide) (br_t rfl (pk_eq s B (fun q => ?_) (fun q => ?_))))
    · exact sh_bt (P := post) (sh_ac0.trans (decide_eq_true q)) h
    · exact sh_bf (P := post) (sh_ac0.trans (decide_eq_false q)) h
  · rw [eb (by decide)] at e6
    subst e6
    have h4 := g4 rfl
    refine br_f (by decide) (br_f (by decide) (br_f (by decide) (br_t rfl (pk_eq s B (fun q => ?_) (fun q => ?_)))))
    · exact sh_bt (P := post) (sh_ac1.trans (decide_eq_true q)) h
    · exact sh_bf (P := post) (sh_ac1.trans (decide_eq_false q)) h
  · rw [eb (by decide)] at e6
    subst e6
    have h5 := g5 rfl
    refine br_f (by decide) (br_f (by decide) (br_f (by decide) (br_f (by decide) (br_t rfl (pk_lt B s (fun q => ?_) (fun q => ?_))))))
    · exact sh_bf (P := post) (sh_ac2.trans (decide_eq_false (by omega))) h
    · exact sh_bt (P := post) (sh_ac2.trans (decide_eq_true q)) h
  · refine br_f (by decide) (br_f (by decide) (br_f (by decide) (br_f (by decide) (br_f (by decide) (br_t rfl (pk_eq s 1 (fun q => ?_) (fun q => ?_)))))))
    · exact sh_bt (P := post) (sh_ac3.trans (decide_eq_true q)) h
    · exact sh_bf (P := post) (sh_ac3.trans (decide_eq_false q)) h
  · refine br_f (by decide) (br_f (by decide) (br_f (by decide) (br_f (by decide) (br_f (by decide) (br_f (by decide) (br_t rfl (pk_eq s 0 (fun q => ?_) (fun q => ?_))))))))
    · exact sh_bt (P := post) (sh_ac4.trans (decide_eq_true q)) h
    · exact sh_bf (P := post) (sh_ac4.trans (decide_eq_false q)) h
  · refine br_f (by decide) (br_f (by decide) (br_f (by decide) (br_f (by decide) (br_f (by decide) (br_f (by decide) (br_f (by decide) (br_t rfl (pk_eq s 1 (fun q => ?_) (fun q => ?_)))))))))
    · exact sh_bt (P := post) (sh_ac5.trans (decide_eq_true q)) h
    · exact sh_bf (P := post) (sh_ac5.trans (decide_eq_false q)) h
  · rw [ea (by decide)] at e5
    subst e5
    have h1 := g1 (by decide)
    refine br_f (by decide) (br_f (by decide) (br_f (by decide) (br_f (by decide) (br_f (by decide) (br_f (by decide) (br_f (by decide) (br_f (by decide) (br_t rfl (pk_eq l 4 (fun q => ?_) (fun q => pk_lt l A (fun z => ?_) (fun z => ?_)))))))))))
    · exact sh_bf (P := post) (sh_ac6.trans (decide_eq_false (by omega))) h
    · exact sh_bf (P := post) (sh_ac6.trans (decide_eq_false (by omega))) h
    · exact sh_bt (P := post) (sh_ac6.trans (decide_eq_true ⟨q, z⟩)) h
  · rw [ea (by decide)] at e5
    subst e5
    have h1 := g1 (by decide)
    refine br_f (by decide) (br_f (by decide) (br_f (by decide) (br_f (by decide) (br_f (by decide) (br_f (by decide) (br_f (by decide) (br_f (by decide) (br_f (by decide) (br_t rfl (pk_eq s A (fun q => ?_) (fun q => ?_)))))))))))
    · exact sh_bt (P := post) (sh_ac7.trans (decide_eq_true q)) h
    · exact sh_bf (P := post) (sh_ac7.trans (decide_eq_false q)) h
  · refine br_f (by decide) (br_f (by decide) (br_f (by decide) (br_f (by decide) (br_f (by decide) (br_f (by decide) (br_f (by decide) (br_f (by decide) (br_f (by decide) (br_f (by decide) (br_t rfl (pk_eq s 1 (fun q => ?_) (fun q => ?_))))))))))))
    · exact sh_bt (P := post) (sh_ac8.trans (decide_eq_true q)) h
    · exact sh_bf (P := post) (sh_ac8.trans (decide_eq_false q)) h
  · rw [eb (by decide)] at e6
    subst e6
    have h8 := g8 rfl
    refine br_f (by decide) (br_t (by decide) (pk_eq s B (fun q => ?_) (fun q => ?_)))
    · exact sh_bt (P := post) (sh_ac9.trans (decide_eq_true q)) h
    · exact sh_bf (P := post) (sh_ac9.trans (decide_eq_false q)) h
theorem sh_acX {post : Int32 → Prop} {i s l : Nat} (hi : i < 3) (hs : s < 4) (hl : l ≤ 4) (G : sh_Gd (kd i) (na i) (nb i)) (h : post (sh_b (sh_ac (sh_n (kd i)) (sh_n (na i)) (sh_n (nb i)) s l))) : wpX_accepts post (f1, fs, fl, fr, kd, na, nb, sg, fo, wy) (nI i) (nI s) (nI l) :=
  sh_acX0 hi hs hl G.1 G.2.1 G.2.2.1 G.2.2.2 h
end
section
variable {c : Nat} {fs fl fr : Int32} {kd na nb sg fo wy : Nat → Int32}
theorem sh_nx14 {post : Int32 → Prop} {s x : Nat} (H : sh_C c kd na nb) (hs : s < 320) (hx : x < 4) (h : post (nI (sh_nx c kd na nb s x))) : ∀ n i, i ≤ c → c - i < n → wX_next_14 post (nI s) (nI x) (nI (s / 64)) (nI c) fs fl fr kd na nb sg fo wy n (nI (sh_nxa (sh_gg kd na nb s x) x i)) (nI i) := by
  intro n
  induction n with
  | zero => intro i hi hn; omega
  | succ n ih =>
    intro i hi hn
    have hc := H.1
    refine pk_le c i (fun z => ?_) (fun z => ?_)
    · have e : i = c := by omega
      rw [e]
      exact h
    · rw [sh_part hs (by omega)]
      refine sh_goX (by omega) (Nat.mod_lt _ (by decide)) (by omega) hx (H.2 i z) ?_
      have b := sh_nxa_b (sh_gg kd na nb s x) x i (fun j hj => sh_gg_lt H s x j (by omega))
      have b2 : 4 ^ i ≤ 4 ^ 2 := sh_le4 (by omega)
      have b3 : sh_nxa (sh_gg kd na nb s x) x i < 256 := by omega
      have b4 : sh_nxa (sh_gg kd na nb s x) x i % 64 < 4 ^ i := by omega
      exact nm_r (sh_orN (g := sh_gg kd na nb s x i) (by omega) (sh_gg_lt H s x i z) b3 b4) (nm_r (nI_1 i) (ih (i + 1) (by omega) (by omega)))
theorem sh_nextX {post : Int32 → Prop} {s x : Nat} (H : sh_C c kd na nb) (hs : s < 320) (hx : x < 4) (h : post (nI (sh_nx c kd na nb s x))) : wpX_next post (nI c, fs, fl, fr, kd, na, nb, sg, fo, wy) (nI s) (nI x) := by
  unfold wpX_next
  dsimp only
  exact nm_r (sh_6r (by omega)) (nm_r (sh_6l hx) ⟨c + 1, sh_nx14 H hs hx h (c + 1) 0 (by omega) (by omega)⟩)
theorem sh_acc2 {post : Int32 → Prop} {s : Nat} (H : sh_C c kd na nb) (hs : s < 320) (h : post (sh_b (sh_acc c kd na nb s))) : ∀ n i, i ≤ c → c - i < n → sh_al (sh_ai kd na nb s) i = true → wX_accepting_2 post (nI s) (nI c) fs fl fr kd na nb sg fo wy n (nI i) := by
  intro n
  induction n with
  | zero => intro i hi hn _; omega
  | succ n ih =>
    intro i hi hn ha
    have hc := H.1
    refine pk_le c i (fun z => ?_) (fun z => ?_)
    · have e : i = c := by omega
      rw [e] at ha
      exact sh_bt (P := post) ha h
    · rw [sh_part hs (by omega), sh_6r (by omega)]
      refine sh_acX (by omega) (Nat.mod_lt _ (by decide)) (by omega) (H.2 i z) ?_
      refine sh_br (fun q => ?_) (fun q => ?_)
      · exact sh_bf (P := post) (sh_al_f (P := sh_ai kd na nb s) q c z) h
      · refine nm_r (nI_1 i) (ih (i + 1) (by omega) (by omega) ?_)
        show (sh_al (sh_ai kd na nb s) i && sh_ai kd na nb s i) = true
        rw [ha, Bool.true_and]
        exact q
theorem sh_accX {post : Int32 → Prop} {s : Nat} (H : sh_C c kd na nb) (hs : s < 320) (h : post (sh_b (sh_acc c kd na nb s))) : wpX_accepting post (nI c, fs, fl, fr, kd, na, nb, sg, fo, wy) (nI s) :=
  ⟨c + 1, sh_acc2 H hs h (c + 1) 0 (by omega) (by omega) rfl⟩
theorem sh_ix (k r : Nat) : nI k * 320 + nI r = nI (k * 320 + r) := by
  rw [show (320 : Int32) = nI 320 from rfl, pk_mul, nI_add]
theorem sh_so6 {post : Int32 → Prop} {k s t : Nat} {f : Nat → Nat} (H : sh_C c kd na nb) (hk : k ≤ 6) (hs : s < 320) (ht : t ≤ 4) (hw : ∀ q, q < 320 → wy (k * 320 + q) = nI (f q)) (h : post (nI (sh_so (fun x => f (sh_nx c kd na nb s x)) t))) : ∀ n x, x ≤ t → t - x < n → wX_sumOver_6 post (nI k) (nI s) (nI t) (nI c) fs fl fr kd na nb sg fo wy n (nI (sh_so (fun x => f (sh_nx c kd na nb s x)) x)) (nI x) := by
  intro n
  induction n with
  | zero => intro x hx hn; omega
  | succ n ih =>
    intro x hx hn
    refine pk_le t x (fun z => ?_) (fun z => ?_)
    · have e : x = t := by omega
      rw [e]
      exact h
    · refine sh_nextX H hs (by omega) ?_
      have hr := sh_nx_lt H s (x := x) (by omega)
      rw [sh_ix]
      refine ⟨vp_in_nI (by omega) (by decide), nm_r (e' := nI (sh_so (fun x => f (sh_nx c kd na nb s x)) (x + 1))) ?_ (nm_r (nI_1 x) (ih (x + 1) (by omega) (by omega)))⟩
      rw [nI_clamp (by omega), hw _ (by omega), nI_add]
      rfl
theorem sh_soX {post : Int32 → Prop} {k s t : Nat} {f : Nat → Nat} (H : sh_C c kd na nb) (hk : k ≤ 6) (hs : s < 320) (ht : t ≤ 4) (hw : ∀ q, q < 320 → wy (k * 320 + q) = nI (f q)) (h : post (nI (sh_so (fun x => f (sh_nx c kd na nb s x)) t))) : wpX_sumOver post (nI c, fs, fl, fr, kd, na, nb, sg, fo, wy) (nI k) (nI s) (nI t) :=
  ⟨t + 1, sh_so6 H hk hs ht hw h (t + 1) 0 (by omega) (by omega)⟩
end
end
section
/-- the ways are right below row k, and in row k below state s -/
def sh_WP (w : Nat → Nat → Nat) (wy : Nat → Int32) (k s : Nat) : Prop := ∀ k' s', s' < 320 → (k' < k ∨ (k' = k ∧ s' < s)) → wy (k' * 320 + s') = nI (w k' s')
theorem sh_WPs {w : Nat → Nat → Nat} {wy : Nat → Int32} {k s : Nat} (h : sh_WP w wy k s) (hs : s < 320) : sh_WP w (upd wy (k * 320 + s) (nI (w k s))) k (s + 1) := by
  intro k' s' hs' hh
  by_cases e : k' = k ∧ s' = s
  · obtain ⟨rfl, rfl⟩ := e
    exact pk_us
  · rw [pk_un (by omega)]
    exact h k' s' hs' (by omega)
theorem sh_WPn {w : Nat → Nat → Nat} {wy : Nat → Int32} {k : Nat} (h : sh_WP w wy k 320) : sh_WP w wy (k + 1) 0 := fun k' s' hs' hh => h k' s' hs' (by omega)
theorem sh_WPr {w : Nat → Nat → Nat} {wy : Nat → Int32} {k : Nat} (h : sh_WP w wy 7 0) (hk : k ≤ 6) : ∀ q, q < 320 → wy (k * 320 + q) = nI (w k q) := fun q hq => h k q hq (by omega)
/-- the ways for these conditions -/
abbrev sh_W (c : Nat) (kd na nb : Nat → Int32) : Nat → Nat → Nat := sh_w (sh_nx c kd na nb) (sh_acc c kd na nb)
section
variable {c : Nat} {fs fl fr : Int32} {kd na nb sg fo : Nat → Int32}
theorem sh_p59 {post : SX → Prop} {J : Int32 → (Nat → Int32) → (Nat → Int32) → (Nat → Int32) → (Nat → Int32) → (Nat → Int32) → (Nat → Int32) → Prop} {j : Nat} (H : sh_C c kd na nb) (hj : j < 6) (hJ : ∀ wy', sh_WP (sh_W c kd na nb) wy' (j + 1 + 1) 0 → J (nI (j + 1 + 1)) kd na nb sg fo wy') : ∀ n s wy, s ≤ 320 → 320 - s < n → sh_WP (sh_W c kd na nb) wy (j + 1) s → wX_prepare_59 post J (nI (j + 1)) (nI c) fs fl fr n (nI s) kd na nb sg fo wy := by
  intro n
  induction n with
  | zero => intro s wy hs hn _; omega
  | succ n ih =>
    intro s wy hs hn hw
    refine pk_le 320 s (fun z => ?_) (fun z => ?_)
    · have e : s = 320 := by omega
      subst e
      exact nm_r (nI_1 (j + 1)) (hJ wy (sh_WPn hw))
    · rw [nI_pred]
      refine sh_soX (k := j) (s := s) (t := 4) (f := sh_W c kd na nb j) H (by omega) z (Nat.le_refl 4) (fun q hq => hw j q hq (by omega)) ?_
      rw [sh_ix]
      refine ⟨vp_in_nI (by omega) (by decide), nm_r (e' := upd wy ((j + 1) * 320 + s) (nI (sh_W c kd na nb (j + 1) s))) ?_ (nm_r (nI_1 s) (ih (s + 1) _ (by omega) (by omega) (sh_WPs hw z)))⟩
      rw [nI_clamp (by omega)]
      rfl
theorem sh_p51 {post : SX → Prop} (H : sh_C c kd na nb) (hp : ∀ wy', sh_WP (sh_W c kd na nb) wy' 7 0 → post (nI c, fs, fl, fr, kd, na, nb, sg, fo, wy')) : ∀ n j wy, j ≤ 6 → 7 - j < n → sh_WP (sh_W c kd na nb) wy (j + 1) 0 → wX_prepare_51 post (nI c) fs fl fr n (nI (j + 1)) kd na nb sg fo wy := by
  intro n
  induction n with
  | zero => intro j wy hj hn _; omega
  | succ n ih =>
    intro j wy hj hn hw
    refine pk_lt 6 (j + 1) (fun z => ?_) (fun z => ?_)
    · have e : j = 6 := by omega
      subst e
      exact hp wy hw
    · exact ⟨321, sh_p59 H (by omega) (fun wy' h' => ih (j + 1) wy' (by omega) (by omega) h') 321 0 wy (by omega) (by omega) hw⟩
theorem sh_p15 {post : SX → Prop} (H : sh_C c kd na nb) (hp : ∀ wy', sh_WP (sh_W c kd na nb) wy' 7 0 → post (nI c, fs, fl, fr, kd, na, nb, sg, fo, wy')) : ∀ n s wy, s ≤ 320 → 320 - s < n → sh_WP (sh_W c kd na nb) wy 0 s → wX_prepare_15 post (nI c) fs fl fr n (nI s) kd na nb sg fo wy := by
  intro n
  induction n with
  | zero => intro s wy hs hn _; omega
  | succ n ih =>
    intro s wy hs hn hw
    refine pk_le 320 s (fun z => ?_) (fun z => ?_)
    · have e : s = 320 := by omega
      subst e
      exact ⟨8, sh_p51 H hp 8 0 wy (by omega) (by omega) (sh_WPn hw)⟩
    · refine sh_accX H z ?_
      refine sh_br (fun q => ?_) (fun q => ?_)
      · refine ⟨vp_in_nI (by omega) (by decide), nm_r (e' := upd wy (0 * 320 + s) (nI (sh_W c kd na nb 0 s))) ?_ (nm_r (nI_1 s) (ih (s + 1) _ (by omega) (by omega) (sh_WPs hw z)))⟩
        rw [nI_clamp (by omega), Nat.zero_mul, Nat.zero_add, show sh_W c kd na nb 0 s = (sh_acc c kd na nb s).toNat from rfl, q]
        rfl
      · refine ⟨vp_in_nI (by omega) (by decide), nm_r (e' := upd wy (0 * 320 + s) (nI (sh_W c kd na nb 0 s))) ?_ (nm_r (nI_1 s) (ih (s + 1) _ (by omega) (by omega) (sh_WPs hw z)))⟩
        rw [nI_clamp (by omega), Nat.zero_mul, Nat.zero_add, show sh_W c kd na nb 0 s = (sh_acc c kd na nb s).toNat from rfl, q]
        rfl
theorem sh_prepX {post : SX → Prop} {wy : Nat → Int32} (H : sh_C c kd na nb) (h0 : ¬ fr = 0 → sh_WP (sh_W c kd na nb) wy 7 0) (hp : ∀ fr' wy', ¬ fr' = 0 → sh_WP (sh_W c kd na nb) wy' 7 0 → post (nI c, fs, fl, fr', kd, na, nb, sg, fo, wy')) : wpX_prepare post (nI c, fs, fl, fr, kd, na, nb, sg, fo, wy) := by
  unfold wpX_prepare
  dsimp only
  exact br_c (fun _ => ⟨321, sh_p15 H (fun wy' h' => hp 1 wy' (by decide) h') 321 0 wy (by omega) (by omega) (fun k' s' _ hh => by omega)⟩) (fun z => hp fr wy z (h0 z))
/-- the elements of list d of length n stand in the array -/
def sh_Sg (sg : Nat → Int32) (n d : Nat) : Prop := ∀ j, j < n → sg j = nI (d / 4 ^ (n - (j + 1)) % 4)
theorem sh_pf {n i : Nat} (d : Nat) (h : i < n) : d / 4 ^ (n - (i + 1)) / 4 = d / 4 ^ (n - i) := by
  rw [Nat.div_div_eq_div_mul, ← Nat.pow_succ, show (n - (i + 1)).succ = n - i by omega]
theorem sh_pe (n d : Nat) : d / 4 ^ (n - n) = d := by
  rw [Nat.sub_self, Nat.pow_zero, Nat.div_one]
theorem sh_ss6 {post : Int32 → Prop} {wy : Nat → Int32} {n d : Nat} (H : sh_C c kd na nb) (hn : n ≤ 6) (hg : sh_Sg sg n d) (h : post (nI (sh_st (sh_nx c kd na nb) n d))) : ∀ m i, i ≤ n → n - i < m → wX_stageState_6 post (nI n) (nI c) fs fl fr kd na nb sg fo wy m (nI (sh_st (sh_nx c kd na nb) i (d / 4 ^ (n - i)))) (nI i) := by
  intro m
  induction m with
  | zero => intro i hi hm; omega
  | succ m ih =>
    intro i hi hm
    refine pk_le n i (fun z => ?_) (fun z => ?_)
    · have e : i = n := by omega
      rw [e, sh_pe]
      exact h
    · rw [nI_clamp (by omega), hg i z]
      refine ⟨vp_in_nI (by omega) (by decide), sh_nextX H (sh_st_lt H _ _) (Nat.mod_lt _ (by decide)) ?_⟩
      have hi1 := ih (i + 1) (by omega) (by omega)
      rw [show sh_st (sh_nx c kd na nb) (i + 1) (d / 4 ^ (n - (i + 1))) = sh_nx c kd na nb (sh_st (sh_nx c kd na nb) i (d / 4 ^ (n - (i + 1)) / 4)) (d / 4 ^ (n - (i + 1)) % 4) from rfl, sh_pf d z] at hi1
      exact nm_r (nI_1 i) hi1
theorem sh_ssX {post : Int32 → Prop} {wy : Nat → Int32} {n d : Nat} (H : sh_C c kd na nb) (hn : n ≤ 6) (hg : sh_Sg sg n d) (h : post (nI (sh_st (sh_nx c kd na nb) n d))) : wpX_stageState post (nI c, fs, fl, fr, kd, na, nb, sg, fo, wy) (nI n) :=
  ⟨n + 1, sh_ss6 H hn hg h (n + 1) 0 (by omega) (by omega)⟩
/-- how many failing lists are shorter than k -/
abbrev sh_TT (c : Nat) (kd na nb : Nat → Int32) : Nat → Nat := sh_T (sh_nx c kd na nb) (sh_acc c kd na nb)
abbrev sh_FL (c : Nat) (kd na nb : Nat → Int32) : Nat → Nat → Bool := sh_fl (sh_nx c kd na nb) (sh_acc c kd na nb)
theorem sh_wr {wy : Nat → Int32} (hw : sh_WP (sh_W c kd na nb) wy 7 0) {k s : Nat} (hk : k ≤ 6) (hs : s < 320) : wy (nI k * 320 + nI s).toNatClampNeg = nI (sh_W c kd na nb k s) := by
  rw [sh_ix, nI_clamp (by omega)]
  exact hw k s hs (by omega)
theorem sh_wi {k s : Nat} (hk : k ≤ 6) (hs : s < 320) : vp_in (nI k * 320 + nI s) 2240 := by
  rw [sh_ix]
  exact vp_in_nI (by omega) (by decide)
theorem sh_t8 {post : Int32 → SX → Prop} {wy : Nat → Int32} (hw : sh_WP (sh_W c kd na nb) wy 7 0) (h : post (nI (sh_TT c kd na nb 7)) (nI c, fs, fl, fr, kd, na, nb, sg, fo, wy)) : ∀ m k, k ≤ 7 → 7 - k < m → wX_total_8 post (nI c) fs fl fr kd na nb sg fo wy m (nI (sh_TT c kd na nb k)) (nI k) := by
  intro m
  induction m with
  | zero => intro k hk hm; omega
  | succ m ih =>
    intro k hk hm
    refine pk_lt 6 k (fun z => ?_) (fun z => ?_)
    · have e : k = 7 := by omega
      rw [e]
      exact h
    · refine ⟨sh_wi (s := 256) z (by decide), nm_r (e' := nI (sh_TT c kd na nb (k + 1))) ?_ (nm_r (nI_1 k) (ih (k + 1) (by omega) (by omega)))⟩
      have e := sh_wr hw (s := 256) z (by decide)
      refine (congrArg (fun y => nI (sh_TT c kd na nb k) + y) e).trans ?_
      show nI (sh_TT c kd na nb k) + nI (sh_W c kd na nb k 256) = _
      rw [nI_add]
      rfl
theorem sh_totX {post : Int32 → SX → Prop} {wy : Nat → Int32} (H : sh_C c kd na nb) (h0 : ¬ fr = 0 → sh_WP (sh_W c kd na nb) wy 7 0) (hp : ∀ fr' wy', ¬ fr' = 0 → sh_WP (sh_W c kd na nb) wy' 7 0 → post (nI (sh_TT c kd na nb 7)) (nI c, fs, fl, fr', kd, na, nb, sg, fo, wy')) : wpX_total post (nI c, fs, fl, fr, kd, na, nb, sg, fo, wy) := by
  unfold wpX_total
  dsimp only
  exact sh_prepX H h0 (fun fr' wy' hf hw => ⟨8, sh_t8 hw (hp fr' wy' hf hw) 8 0 (by omega) (by omega)⟩)
end
end
section
section
variable {nx : Nat → Nat → Nat} {ac : Nat → Bool}
theorem sh_fs {n i : Nat} (p : Nat) {x : Nat} (h : i < n) (hx : x ≤ 4) : sh_ct (sh_fl nx ac n) ((4 * p + x) * 4 ^ (n - (i + 1))) = sh_ct (sh_fl nx ac n) (p * 4 ^ (n - i)) + sh_so (fun x => sh_w nx ac (n - (i + 1)) (nx (sh_st nx i p) x)) x := by
  obtain ⟨k, rfl⟩ : ∃ k, n = i + (k + 1) := ⟨n - (i + 1), by omega⟩
  rw [show i + (k + 1) - (i + 1) = k by omega, show i + (k + 1) - i = k + 1 by omega, ← sh_top k i p hx]
  have e := sh_ar p x (4 ^ k) 0
  rw [Nat.add_zero, Nat.add_zero, ← Nat.pow_succ] at e
  rw [← e]
theorem sh_rk {n i : Nat} (d : Nat) (h : i < n) : sh_ct (sh_fl nx ac n) (d / 4 ^ (n - (i + 1)) * 4 ^ (n - (i + 1))) = sh_ct (sh_fl nx ac n) (d / 4 ^ (n - i) * 4 ^ (n - i)) + sh_so (fun x => sh_w nx ac (n - (i + 1)) (nx (sh_st nx i (d / 4 ^ (n - i))) x)) (d / 4 ^ (n - (i + 1)) % 4) := by
  have h1 := sh_fs (nx := nx) (ac := ac) (n := n) (i := i) (d / 4 ^ (n - i)) (x := d / 4 ^ (n - (i + 1)) % 4) h (by omega)
  rw [← h1, ← sh_pf d h]
  refine congrArg (fun y => sh_ct (sh_fl nx ac n) (y * 4 ^ (n - (i + 1)))) ?_
  omega
theorem sh_w_le : ∀ k s, sh_w nx ac k s ≤ 4 ^ k := by
  intro k
  induction k with
  | zero => intro s; exact Bool.toNat_le (ac s)
  | succ k ih =>
    intro s
    show 0 + sh_w nx ac k (nx s 0) + sh_w nx ac k (nx s 1) + sh_w nx ac k (nx s 2) + sh_w nx ac k (nx s 3) ≤ 4 ^ (k + 1)
    have h0 := ih (nx s 0)
    have h1 := ih (nx s 1)
    have h2 := ih (nx s 2)
    have h3 := ih (nx s 3)
    rw [Nat.pow_succ]
    omega
theorem sh_T_le : ∀ n, sh_T nx ac n ≤ sh_sa n := by
  intro n
  induction n with
  | zero => exact Nat.le_refl _
  | succ n ih =>
    show sh_T nx ac n + sh_w nx ac n 256 ≤ sh_sa n + 4 ^ n
    exact Nat.add_le_add ih (sh_w_le n 256)
theorem sh_sa7 : sh_sa 7 = 5461 := by decide
theorem sh_T7 : sh_T nx ac 7 ≤ 5461 := by
  have h := sh_T_le (nx := nx) (ac := ac) 7
  rw [sh_sa7] at h
  exact h
end
theorem sh_sg1 {fo : Nat → Int32} {i p x : Nat} (h : sh_Sg fo i p) (hx : x < 4) : sh_Sg (upd fo i (nI x)) (i + 1) (4 * p + x) := by
  intro j hj
  by_cases e : j = i
  · subst e
    rw [pk_us, Nat.sub_self, Nat.pow_zero, Nat.div_one]
    exact congrArg nI (by omega)
  · rw [pk_un e, h j (by omega), show i + 1 - (j + 1) = (i - (j + 1)) + 1 by omega, Nat.pow_succ, Nat.mul_comm (4 ^ (i - (j + 1))) 4, ← Nat.div_div_eq_div_mul, show (4 * p + x) / 4 = p by omega]
section
variable {c : Nat} {fs fl fr : Int32} {kd na nb sg fo wy : Nat → Int32}
theorem sh_k1 {n i : Nat} (h : i < n) : (nI n - nI i) - 1 = nI (n - (i + 1)) := by
  rw [show (1 : Int32) = nI 1 from rfl, pk_sub (by omega), pk_sub (by omega)]
  exact congrArg nI (by omega)
theorem sh_r45 {post : Int32 → SX → Prop} {n d : Nat} (H : sh_C c kd na nb) (hw : sh_WP (sh_W c kd na nb) wy 7 0) (hn : n ≤ 6) (hg : sh_Sg sg n d) (h : post (nI (sh_TT c kd na nb n + sh_ct (sh_FL c kd na nb n) d)) (nI c, nI n, fl, fr, kd, na, nb, sg, fo, wy)) : ∀ m i, i ≤ n → n - i < m → wX_rank_45 post (nI c) (nI n) fl fr kd na nb sg fo wy m (nI (sh_TT c kd na nb n + sh_ct (sh_FL c kd na nb n) (d / 4 ^ (n - i) * 4 ^ (n - i)))) (nI (sh_st (sh_nx c kd na nb) i (d / 4 ^ (n - i)))) (nI i) := by
  intro m
  induction m with
  | zero => intro i hi hm; omega
  | succ m ih =>
    intro i hi hm
    refine pk_le n i (fun z => ?_) (fun z => ?_)
    · have e : i = n := by omega
      rw [e, Nat.sub_self, Nat.pow_zero, Nat.div_one, Nat.mul_one]
      exact h
    · have vi : vp_in (nI i) 6 := vp_in_nI (by omega) (by decide)
      rw [nI_clamp (by omega), hg i z, sh_k1 z]
      have hi1 := ih (i + 1) (by omega) (by omega)
      rw [show sh_st (sh_nx c kd na nb) (i + 1) (d / 4 ^ (n - (i + 1))) = sh_nx c kd na nb (sh_st (sh_nx c kd na nb) i (d / 4 ^ (n - (i + 1)) / 4)) (d / 4 ^ (n - (i + 1)) % 4) from rfl, sh_pf d z] at hi1
      refine ⟨vi, sh_soX (k := n - (i + 1)) (f := sh_W c kd na nb (n - (i + 1))) H (by omega) (sh_st_lt H _ _) (by omega) (sh_WPr hw (by omega)) (nm_r (e' := nI (sh_TT c kd na nb n + sh_ct (sh_FL c kd na nb n) (d / 4 ^ (n - (i + 1)) * 4 ^ (n - (i + 1))))) ?_ ⟨vi, sh_nextX H (sh_st_lt H _ _) (Nat.mod_lt _ (by decide)) (nm_r (nI_1 i) hi1)⟩)⟩
      rw [nI_add, sh_rk d z, Nat.add_assoc]
theorem sh_r8 {post : Int32 → SX → Prop} {n d : Nat} (H : sh_C c kd na nb) (hw : sh_WP (sh_W c kd na nb) wy 7 0) (hn : n ≤ 6) (hd : d < 4 ^ n) (hg : sh_Sg sg n d) (h : post (nI (sh_TT c kd na nb n + sh_ct (sh_FL c kd na nb n) d)) (nI c, nI n, fl, fr, kd, na, nb, sg, fo, wy)) : ∀ m k, k ≤ n → n - k < m → wX_rank_8 post (nI c) (nI n) fl fr kd na nb sg fo wy m (nI (sh_TT c kd na nb k)) (nI k) := by
  intro m
  induction m with
  | zero => intro k hk hm; omega
  | succ m ih =>
    intro k hk hm
    refine pk_le n k (fun z => ?_) (fun z => ?_)
    · have e : k = n := by omega
      have h1 := sh_r45 H hw hn hg h (n + 1) 0 (by omega) (by omega)
      rw [Nat.sub_zero, Nat.div_eq_of_lt hd, Nat.zero_mul] at h1
      rw [e]
      exact ⟨n + 1, h1⟩
    · refine ⟨sh_wi (s := 256) (by omega) (by decide), nm_r (e' := nI (sh_TT c kd na nb (k + 1))) ?_ (nm_r (nI_1 k) (ih (k + 1) (by omega) (by omega)))⟩
      have e := sh_wr hw (k := k) (s := 256) (by omega) (by decide)
      refine (congrArg (fun y => nI (sh_TT c kd na nb k) + y) e).trans ?_
      show nI (sh_TT c kd na nb k) + nI (sh_W c kd na nb k 256) = _
      rw [nI_add]
      rfl
theorem sh_rankX {post : Int32 → SX → Prop} {n d : Nat} (H : sh_C c kd na nb) (h0 : ¬ fr = 0 → sh_WP (sh_W c kd na nb) wy 7 0) (hn : n ≤ 6) (hd : d < 4 ^ n) (hg : sh_Sg sg n d) (hp : ∀ fr' wy', ¬ fr' = 0 → sh_WP (sh_W c kd na nb) wy' 7 0 → post (nI (sh_TT c kd na nb n + sh_ct (sh_FL c kd na nb n) d)) (nI c, nI n, fl, fr', kd, na, nb, sg, fo, wy')) : wpX_rank post (nI c, nI n, fl, fr, kd, na, nb, sg, fo, wy) := by
  unfold wpX_rank
  dsimp only
  exact sh_prepX H h0 (fun fr' wy' hf hw => ⟨n + 1, sh_r8 H hw hn hd hg (hp fr' wy' hf hw) (n + 1) 0 (by omega) (by omega)⟩)
theorem sh_e17 {post : Int32 → SX → Prop} {n s : Nat} (hw : sh_WP (sh_W c kd na nb) wy 7 0) (hn : n ≤ 6) (hs : s < 320) (h : post (nI (sh_so (fun k => sh_W c kd na nb k s) (7 - n))) (nI c, nI n, fl, fr, kd, na, nb, sg, fo, wy)) : ∀ m k, k ≤ 7 - n → 7 - n - k < m → wX_extending_17 post (nI s) (nI c) (nI n) fl fr kd na nb sg fo wy m (nI (sh_so (fun k => sh_W c kd na nb k s) k)) (nI k) := by
  intro m
  induction m with
  | zero => intro k hk hm; omega
  | succ m ih =>
    intro k hk hm
    refine pk_lt (6 - n) k (fun z => ?_) (fun z => ?_) (pk_sub (a := 6) hn) rfl
    · have e : k = 7 - n := by omega
      rw [e]
      exact h
    · refine ⟨sh_wi (by omega) hs, nm_r (e' := nI (sh_so (fun k => sh_W c kd na nb k s) (k + 1))) ?_ (nm_r (nI_1 k) (ih (k + 1) (by omega) (by omega)))⟩
      rw [sh_wr hw (by omega) hs, nI_add]
      rfl
theorem sh_extX {post : Int32 → SX → Prop} {n d : Nat} (H : sh_C c kd na nb) (h0 : ¬ fr = 0 → sh_WP (sh_W c kd na nb) wy 7 0) (hn : n ≤ 6) (hg : sh_Sg sg n d) (hp : ∀ fr' wy', ¬ fr' = 0 → sh_WP (sh_W c kd na nb) wy' 7 0 → post (nI (sh_so (fun k => sh_W c kd na nb k (sh_st (sh_nx c kd na nb) n d)) (7 - n))) (nI c, nI n, fl, fr', kd, na, nb, sg, fo, wy')) : wpX_extending post (nI c, nI n, fl, fr, kd, na, nb, sg, fo, wy) := by
  unfold wpX_extending
  dsimp only
  exact sh_prepX H h0 (fun fr' wy' hf hw => sh_ssX H hn hg ⟨8, sh_e17 hw hn (sh_st_lt H _ _) (hp fr' wy' hf hw) 8 0 (by omega) (by omega)⟩)
/-- the sum over the elements below x -/
abbrev sh_S (c : Nat) (kd na nb : Nat → Int32) (k s : Nat) : Nat → Nat := sh_so (fun x => sh_W c kd na nb k (sh_nx c kd na nb s x))
theorem sh_f131 {post : Int32 → SX → Prop} {J : Int32 → Int32 → Int32 → (Nat → Int32) → (Nat → Int32) → (Nat → Int32) → (Nat → Int32) → (Nat → Int32) → (Nat → Int32) → Prop} {len i left s x : Nat} (H : sh_C c kd na nb) (hw : sh_WP (sh_W c kd na nb) wy 7 0) (hl : len ≤ 6) (hi : i < len) (hs : s < 320) (hx : x < 4) (hle : sh_S c kd na nb (len - (i + 1)) s x ≤ left) (hJ : J (nI (left - sh_S c kd na nb (len - (i + 1)) s x)) (nI (sh_nx c kd na nb s x)) (nI (i + 1)) kd na nb sg (upd fo i (nI x)) wy) : wX_find_131 post J (nI left) (nI len) (nI s) (nI i) (nI x) (nI c) fs fl fr kd na nb sg fo wy := by
  unfold wX_find_131
  rw [sh_k1 hi, nI_clamp (n := i) (by omega)]
  exact sh_soX (k := len - (i + 1)) (f := sh_W c kd na nb (len - (i + 1))) H (by omega) hs (by omega) (sh_WPr hw (by omega)) (nm_r (pk_sub hle) ⟨vp_in_nI (by omega) (by decide), nm_e (sh_nextX H hs hx (nm_r (nI_1 i) hJ))⟩)
theorem sh_f98 {post : Int32 → SX → Prop} {J : Int32 → Int32 → Int32 → (Nat → Int32) → (Nat → Int32) → (Nat → Int32) → (Nat → Int32) → (Nat → Int32) → (Nat → Int32) → Prop} {len i left s : Nat} (H : sh_C c kd na nb) (hw : sh_WP (sh_W c kd na nb) wy 7 0) (hl : len ≤ 6) (hi : i < len) (hs : s < 320) (hup : left < sh_S c kd na nb (len - (i + 1)) s 4) (hc : ∀ x, x < 4 → sh_S c kd na nb (len - (i + 1)) s x ≤ left → left < sh_S c kd na nb (len - (i + 1)) s (x + 1) → wX_find_131 post J (nI left) (nI len) (nI s) (nI i) (nI x) (nI c) fs fl fr kd na nb sg fo wy) : ∀ m x, x ≤ 3 → 3 - x < m → sh_S c kd na nb (len - (i + 1)) s x ≤ left → wX_find_98 post J (nI left) (nI len) (nI s) (nI i) (nI c) fs fl fr kd na nb sg fo wy m (nI x) := by
  have hb : sh_S c kd na nb (len - (i + 1)) s 4 ≤ 4 ^ (len - (i + 1) + 1) := sh_w_le (nx := sh_nx c kd na nb) (ac := sh_acc c kd na nb) (len - (i + 1) + 1) s
  have hb2 : 4 ^ (len - (i + 1) + 1) ≤ 4096 := sh_le6 (by omega)
  intro m
  induction m with
  | zero => intro x hx hm _; omega
  | succ m ih =>
    intro x hx hm hle
    refine pk_le 3 x (fun z => ?_) (fun z => ?_)
    · have e : x = 3 := by omega
      subst e
      exact hc 3 (by omega) hle hup
    · rw [sh_k1 hi, nI_1 x]
      have hm1 : sh_S c kd na nb (len - (i + 1)) s (x + 1) ≤ sh_S c kd na nb (len - (i + 1)) s 4 := sh_so_mono _ (by omega)
      exact sh_soX (k := len - (i + 1)) (f := sh_W c kd na nb (len - (i + 1))) H (by omega) hs (by omega) (sh_WPr hw (by omega)) (pk_lt left (sh_S c kd na nb (len - (i + 1)) s (x + 1)) (fun z2 => hc x (by omega) hle z2) (fun z2 => nm_e (ih (x + 1) (by omega) (by omega) z2)))
theorem sh_f85 {post : Int32 → SX → Prop} {len M : Nat} (H : sh_C c kd na nb) (hw : sh_WP (sh_W c kd na nb) wy 7 0) (hl : len ≤ 6) (hp : ∀ fo' p, p < 4 ^ len → sh_FL c kd na nb len p = true → sh_ct (sh_FL c kd na nb len) p = M → sh_Sg fo' len p → post 1 (nI c, fs, fl, fr, kd, na, nb, sg, fo', wy)) : ∀ m i left p fo, i ≤ len → len - i < m → p < 4 ^ i → left + sh_ct (sh_FL c kd na nb len) (p * 4 ^ (len - i)) = M → left < sh_W c kd na nb (len - i) (sh_st (sh_nx c kd na nb) i p) → sh_Sg fo i p → wX_find_85 post (nI len) (nI c) fs fl fr m (nI left) (nI (sh_st (sh_nx c kd na nb) i p)) (nI i) kd na nb sg fo wy := by
  intro m
  induction m with
  | zero => intro i left p fo hi hm _ _ _ _; omega
  | succ m ih =>
    intro i left p fo hi hm hpp hM hlt hsg
    refine pk_le len i (fun z => ?_) (fun z => ?_)
    · have e : i = len := by omega
      subst e
      rw [Nat.sub_self] at hM hlt
      rw [Nat.pow_zero, Nat.mul_one] at hM
      have hlt2 : left < (sh_FL c kd na nb i p).toNat := hlt
      have hle := Bool.toNat_le (sh_FL c kd na nb i p)
      have ht : sh_FL c kd na nb i p = true := by
        cases hq : sh_FL c kd na nb i p
        · rw [hq] at hlt2
          exact absurd hlt2 (Nat.not_lt_zero _)
        · rfl
      exact hp fo p hpp ht (by omega) hsg
    · have hs := sh_st_lt H i p
      have hup : left < sh_S c kd na nb (len - (i + 1)) (sh_st (sh_nx c kd na nb) i p) 4 := by
        rw [show len - i = (len - (i + 1)) + 1 by omega] at hlt
        exact hlt
      refine ⟨4, sh_f98 H hw hl z hs hup (fun x hx h1 h2 => sh_f131 H hw hl z hs hx h1 ?_) 4 0 (by omega) (by omega) (Nat.zero_le _)⟩
      rw [← sh_st_s (nx := sh_nx c kd na nb) (n := i) (p := p) hx]
      refine ih (i + 1) _ (4 * p + x) _ (by omega) (by omega) ?_ ?_ ?_ (sh_sg1 hsg hx)
      · rw [Nat.pow_succ]
        omega
      · rw [sh_fs p z (by omega)]
        have hM2 : left + sh_ct (sh_fl (sh_nx c kd na nb) (sh_acc c kd na nb) len) (p * 4 ^ (len - i)) = M := hM
        have h3 : sh_so (fun x => sh_w (sh_nx c kd na nb) (sh_acc c kd na nb) (len - (i + 1)) (sh_nx c kd na nb (sh_st (sh_nx c kd na nb) i p) x)) x ≤ left := h1
        show left - sh_so (fun x => sh_w (sh_nx c kd na nb) (sh_acc c kd na nb) (len - (i + 1)) (sh_nx c kd na nb (sh_st (sh_nx c kd na nb) i p) x)) x + _ = M
        omega
      · rw [sh_st_s hx]
        have h2' : left < sh_S c kd na nb (len - (i + 1)) (sh_st (sh_nx c kd na nb) i p) x + sh_W c kd na nb (len - (i + 1)) (sh_nx c kd na nb (sh_st (sh_nx c kd na nb) i p) x) := h2
        omega
theorem sh_f21 {post : Int32 → SX → Prop} {M : Nat} (H : sh_C c kd na nb) (hw : sh_WP (sh_W c kd na nb) wy 7 0) (hm7 : M < sh_TT c kd na nb 7) (hp : ∀ len fo' p, len ≤ 6 → p < 4 ^ len → sh_FL c kd na nb len p = true → sh_TT c kd na nb len + sh_ct (sh_FL c kd na nb len) p = M → sh_Sg fo' len p → post 1 (nI c, fs, nI len, fr, kd, na, nb, sg, fo', wy)) : ∀ m len left, len ≤ 6 → 6 - len < m → left + sh_TT c kd na nb len = M → wX_find_21 post (nI c) fs fl fr kd na nb sg fo wy m (nI left) (nI len) := by
  have h7 : sh_TT c kd na nb 7 ≤ 5461 := sh_T7
  have G : ∀ len left, len ≤ 6 → left + sh_TT c kd na nb len = M → left < sh_W c kd na nb len 256 → ∃ n85, wX_find_85 post (nI len) (nI c) fs (nI len) fr n85 (nI left) 256 0 kd na nb sg fo wy := by
    intro len left hl he hlt
    refine ⟨len + 1, sh_f85 (M := left) H hw hl (fun fo' p h1 h2 h3 h4 => hp len fo' p hl h1 h2 (by omega) h4) (len + 1) 0 left 0 fo (by omega) (by omega) (by decide) ?_ hlt (fun j hj => absurd hj (Nat.not_lt_zero j))⟩
    rw [Nat.zero_mul]
    rfl
  intro m
  induction m with
  | zero => intro len left hl hm _; omega
  | succ m ih =>
    intro len left hl hm he
    have hwl : sh_W c kd na nb len 256 ≤ 4 ^ len := sh_w_le len 256
    have h46 : 4 ^ len ≤ 4096 := sh_le6 hl
    refine pk_le 6 len (fun z => ?_) (fun z => ⟨sh_wi (s := 256) hl (by decide), pk_lt left (sh_W c kd na nb len 256) (fun z2 => G len left hl he z2) (fun z2 => ⟨sh_wi (s := 256) hl (by decide), nm_r (e' := nI (left - sh_W c kd na nb len 256)) ?_ (nm_r (nI_1 len) (ih (len + 1) (left - sh_W c kd na nb len 256) (by omega) (by omega) ?_))⟩) rfl (sh_wr hw (s := 256) hl (by decide))⟩)
    · have e : len = 6 := by omega
      subst e
      refine G 6 left hl he ?_
      have : sh_TT c kd na nb 7 = sh_TT c kd na nb 6 + sh_W c kd na nb 6 256 := rfl
      omega
    · rw [← pk_sub z2]
      exact congrArg (fun y => nI left - y) (sh_wr hw (s := 256) hl (by decide))
    · show left - sh_W c kd na nb len 256 + (sh_TT c kd na nb len + sh_W c kd na nb len 256) = M
      omega
theorem sh_findX {post : Int32 → SX → Prop} {v : Int32} (H : sh_C c kd na nb) (h0 : ¬ fr = 0 → sh_WP (sh_W c kd na nb) wy 7 0) (hno : (v < 0 ∨ ¬ v < nI (sh_TT c kd na nb 7)) → ∀ fr' wy', ¬ fr' = 0 → sh_WP (sh_W c kd na nb) wy' 7 0 → post 0 (nI c, fs, fl, fr', kd, na, nb, sg, fo, wy')) (hyes : ∀ M, M < sh_TT c kd na nb 7 → v = nI M → ∀ fr' wy' len fo' p, ¬ fr' = 0 → sh_WP (sh_W c kd na nb) wy' 7 0 → len ≤ 6 → p < 4 ^ len → sh_FL c kd na nb len p = true → sh_TT c kd na nb len + sh_ct (sh_FL c kd na nb len) p = M → sh_Sg fo' len p → post 1 (nI c, fs, nI len, fr', kd, na, nb, sg, fo', wy')) : wpX_find post (nI c, fs, fl, fr, kd, na, nb, sg, fo, wy) v := by
  have h7 : sh_TT c kd na nb 7 ≤ 5461 := sh_T7
  unfold wpX_find
  dsimp only
  refine sh_totX H h0 (fun fr' wy' hf hw => br_c (fun z => hno (Or.inl z) fr' wy' hf hw) (fun z => br_c (fun z2 => ?_) (fun z2 => hno (Or.inr z2) fr' wy' hf hw)))
  obtain ⟨M, hM, rfl⟩ := nI_of z
  rw [nI_ltI hM (by omega)] at z2
  exact ⟨7, sh_f21 H hw z2 (fun len fo' p h1 h2 h3 h4 h5 => hyes M z2 rfl fr' wy' len fo' p hf hw h1 h2 h3 h4 h5) 7 0 M (by omega) (by omega) rfl⟩
theorem sh_l23 {post : Int32 → SX → Prop} {n : Nat} (hn : n ≤ 6) (hp : ∀ sg', (∀ j, j < n → sg' j = fo j) → post (nI n) (nI c, nI n, fl, fr, kd, na, nb, sg', fo, wy)) : ∀ m i sg', i ≤ n → n - i < m → (∀ j, j < i → sg' j = fo j) → wX_load_23 post (nI c) (nI n) fl fr m (nI i) kd na nb sg' fo wy := by
  intro m
  induction m with
  | zero => intro i sg' hi hm _; omega
  | succ m ih =>
    intro i sg' hi hm hs
    refine pk_le n i (fun z => ?_) (fun z => ?_)
    · exact hp sg' (fun j hj => hs j (by omega))
    · have vi : vp_in (nI i) 6 := vp_in_nI (by omega) (by decide)
      rw [nI_clamp (by omega)]
      refine ⟨vi, ⟨vi, nm_e (nm_r (nI_1 i) (ih (i + 1) _ (by omega) (by omega) (fun j hj => ?_)))⟩⟩
      by_cases e : j = i
      · rw [e]
        exact pk_us
      · rw [pk_un e]
        exact hs j (by omega)
end
end
section
section
variable {c : Nat} {f1 le dg kn : Int32} {kd na nb mk : Nat → Int32}
theorem sh_atY {post : Int32 → Prop} {n d i : Nat} (hd : d < 2 ^ 31) (hi : i < n) (hn : n ≤ 6) (h : post (nI (d / 4 ^ (n - (i + 1)) % 4))) : wpY_at post (f1, le, dg, kn, kd, na, nb, mk) (nI n) (nI d) (nI i) := by
  unfold wpY_at
  dsimp only
  rw [sh_at hd hi hn]
  exact h
theorem sh_oc_s (A n d i : Nat) (h : i < n) : sh_oc A (i + 1) (d / 4 ^ (n - (i + 1))) = sh_oc A i (d / 4 ^ (n - i)) + (if d / 4 ^ (n - (i + 1)) % 4 = A then 1 else 0) := by
  rw [← sh_pf d h]
  rfl
theorem sh_sm_s (n d i : Nat) (h : i < n) : sh_sm (i + 1) (d / 4 ^ (n - (i + 1))) = sh_sm i (d / 4 ^ (n - i)) + d / 4 ^ (n - (i + 1)) % 4 := by
  rw [← sh_pf d h]
  rfl
theorem sh_oc6 {post : Int32 → Prop} {n d A : Nat} (hd : d < 2 ^ 31) (hn : n ≤ 6) (hA : A < 2 ^ 31) (h : post (nI (sh_oc A n d))) : ∀ m i, i ≤ n → n - i < m → wY_occurs_6 post (nI n) (nI d) (nI A) f1 le dg kn kd na nb mk m (nI (sh_oc A i (d / 4 ^ (n - i)))) (nI i) := by
  intro m
  induction m with
  | zero => intro i hi hm; omega
  | succ m ih =>
    intro i hi hm
    refine pk_le n i (fun z => ?_) (fun z => ?_)
    · have e : i = n := by omega
      rw [e, sh_pe]
      exact h
    · have hi1 := ih (i + 1) (by omega) (by omega)
      rw [sh_oc_s A n d i z] at hi1
      refine sh_atY hd z hn (pk_eq (d / 4 ^ (n - (i + 1)) % 4) A (fun q => ?_) (fun q => ?_))
      · rw [if_pos q] at hi1
        exact nm_r (nI_1 _) (nm_r (nI_1 i) hi1)
      · rw [if_neg q] at hi1
        exact nm_r (nI_1 i) hi1
theorem sh_ocY {post : Int32 → Prop} {n d A : Nat} (hd : d < 2 ^ 31) (hn : n ≤ 6) (hA : A < 2 ^ 31) (h : post (nI (sh_oc A n d))) : wpY_occurs post (f1, le, dg, kn, kd, na, nb, mk) (nI n) (nI d) (nI A) :=
  ⟨n + 1, sh_oc6 hd hn hA h (n + 1) 0 (by omega) (by omega)⟩
theorem sh_sm5 {post : Int32 → Prop} {n d : Nat} (hd : d < 2 ^ 31) (hn : n ≤ 6) (h : post (nI (sh_sm n d))) : ∀ m i, i ≤ n → n - i < m → wY_sum_5 post (nI n) (nI d) f1 le dg kn kd na nb mk m (nI (sh_sm i (d / 4 ^ (n - i)))) (nI i) := by
  intro m
  induction m with
  | zero => intro i hi hm; omega
  | succ m ih =>
    intro i hi hm
    refine pk_le n i (fun z => ?_) (fun z => ?_)
    · have e : i = n := by omega
      rw [e, sh_pe]
      exact h
    · have hi1 := ih (i + 1) (by omega) (by omega)
      rw [sh_sm_s n d i z] at hi1
      exact sh_atY hd z hn (nm_r (nI_add _ _) (nm_r (nI_1 i) hi1))
theorem sh_smY {post : Int32 → Prop} {n d : Nat} (hd : d < 2 ^ 31) (hn : n ≤ 6) (h : post (nI (sh_sm n d))) : wpY_sum post (f1, le, dg, kn, kd, na, nb, mk) (nI n) (nI d) :=
  ⟨n + 1, sh_sm5 hd hn h (n + 1) 0 (by omega) (by omega)⟩
/-- two elements side by side -/
theorem sh_pr_s (A B n d i : Nat) (h : i + 1 < n) : sh_pr A B (i + 1 + 1) (d / 4 ^ (n - (i + 1 + 1))) = (sh_pr A B (i + 1) (d / 4 ^ (n - (i + 1))) || (decide (d / 4 ^ (n - (i + 1)) % 4 = A) && decide (d / 4 ^ (n - (i + 1 + 1)) % 4 = B))) := by
  rw [← sh_pf d h]
  rfl
theorem sh_rs_s (n d i : Nat) (h : i + 1 < n) : sh_rs (i + 1 + 1) (d / 4 ^ (n - (i + 1 + 1))) = (sh_rs (i + 1) (d / 4 ^ (n - (i + 1))) || decide (d / 4 ^ (n - (i + 1)) % 4 < d / 4 ^ (n - (i + 1 + 1)) % 4)) := by
  rw [← sh_pf d h]
  rfl
theorem sh_pr_m (A B n d : Nat) : ∀ r j, j + r = n → sh_pr A B j (d / 4 ^ (n - j)) = true → sh_pr A B n d = true := by
  intro r
  induction r with
  | zero =>
    intro j hj h
    have e : j = n := by omega
    rw [e, sh_pe] at h
    exact h
  | succ r ih =>
    intro j hj h
    refine ih (j + 1) (by omega) ?_
    show (sh_pr A B j (d / 4 ^ (n - (j + 1)) / 4) || _) = true
    rw [sh_pf d (by omega), h, Bool.true_or]
theorem sh_rs_m (n d : Nat) : ∀ r j, j + r = n → sh_rs j (d / 4 ^ (n - j)) = true → sh_rs n d = true := by
  intro r
  induction r with
  | zero =>
    intro j hj h
    have e : j = n := by omega
    rw [e, sh_pe] at h
    exact h
  | succ r ih =>
    intro j hj h
    refine ih (j + 1) (by omega) ?_
    show (sh_rs j (d / 4 ^ (n - (j + 1)) / 4) || _) = true
    rw [sh_pf d (by omega), h, Bool.true_or]
/-- nothing before the first two -/
theorem sh_pr_1 (A B d : Nat) (hA : A ≤ 3) : sh_pr A B 1 d = false := by
  show (false || (decide (4 = A) && decide (d % 4 = B))) = false
  rw [decide_eq_false (p := 4 = A) (by omega)]
  rfl
theorem sh_rs_1 (d : Nat) : sh_rs 1 d = false := by
  show (false || decide (4 < d % 4)) = false
  rw [decide_eq_false (p := 4 < d % 4) (by omega)]
  rfl
theorem sh_pr3 {post : Int32 → Prop} {n d A B : Nat} (hd : d < 2 ^ 31) (hn : n ≤ 6) (hA : A ≤ 3) (hB : B ≤ 3) (h : post (sh_b (sh_pr A B n d))) : ∀ m i, n - i < m → (i = 0 ∨ i < n) → (i < n → sh_pr A B (i + 1) (d / 4 ^ (n - (i + 1))) = false) → wY_pair_3 post (nI n) (nI d) (nI A) (nI B) f1 le dg kn kd na nb mk m (nI i) := by
  intro m
  induction m with
  | zero => intro i hm _ _; omega
  | succ m ih =>
    intro i hm hi hf
    refine pk_le n (i + 1) (fun z => ?_) (fun z => ?_) rfl (nI_1 i)
    · refine sh_bf (P := post) ?_ h
      rcases Nat.lt_or_ge i n with y | y
      · have e : i + 1 = n := by omega
        have := hf y
        rw [e, sh_pe] at this
        exact this
      · have e : n = 0 := by omega
        rw [e]
        rfl
    · have hfi := hf (by omega)
      have hs := sh_pr_s A B n d i z
      rw [hfi, Bool.false_or] at hs
      have N : sh_pr A B (i + 1 + 1) (d / 4 ^ (n - (i + 1 + 1))) = false → ∀ y, y = nI i + 1 → wY_pair_3 post (nI n) (nI d) (nI A) (nI B) f1 le dg kn kd na nb mk m y := fun hh => nm_r (nI_1 i) (ih (i + 1) (by omega) (Or.inr z) (fun _ => hh))
      refine sh_atY hd (by omega) hn (pk_eq (d / 4 ^ (n - (i + 1)) % 4) A (fun q => ?_) (fun q => N ?_))
      · rw [nI_1 i]
        rw [nI_1 i] at N
        refine sh_atY hd z hn (pk_eq (d / 4 ^ (n - (i + 1 + 1)) % 4) B (fun q2 => ?_) (fun q2 => N ?_))
        · rw [decide_eq_true q, decide_eq_true q2] at hs
          exact sh_bt (P := post) (sh_pr_m A B n d (n - (i + 1 + 1)) (i + 1 + 1) (by omega) hs) h
        · rw [hs, decide_eq_false q2, Bool.and_false]
      · rw [hs, decide_eq_false q, Bool.false_and]
theorem sh_prY {post : Int32 → Prop} {n d A B : Nat} (hd : d < 2 ^ 31) (hn : n ≤ 6) (hA : A ≤ 3) (hB : B ≤ 3) (h : post (sh_b (sh_pr A B n d))) : wpY_pair post (f1, le, dg, kn, kd, na, nb, mk) (nI n) (nI d) (nI A) (nI B) :=
  ⟨n + 1, sh_pr3 hd hn hA hB h (n + 1) 0 (by omega) (Or.inl rfl) (fun _ => sh_pr_1 A B _ hA)⟩
theorem sh_rs2 {post : Int32 → Prop} {n d : Nat} (hd : d < 2 ^ 31) (hn : n ≤ 6) (h : post (sh_b (sh_rs n d))) : ∀ m i, n - i < m → (i = 0 ∨ i < n) → (i < n → sh_rs (i + 1) (d / 4 ^ (n - (i + 1))) = false) → wY_rises_2 post (nI n) (nI d) f1 le dg kn kd na nb mk m (nI i) := by
  intro m
  induction m with
  | zero => intro i hm _ _; omega
  | succ m ih =>
    intro i hm hi hf
    refine pk_le n (i + 1) (fun z => ?_) (fun z => ?_) rfl (nI_1 i)
    · refine sh_bf (P := post) ?_ h
      rcases Nat.lt_or_ge i n with y | y
      · have e : i + 1 = n := by omega
        have := hf y
        rw [e, sh_pe] at this
        exact this
      · have e : n = 0 := by omega
        rw [e]
        rfl
    · have hfi := hf (by omega)
      have hs := sh_rs_s n d i z
      rw [hfi, Bool.false_or] at hs
      rw [nI_1 i]
      refine sh_atY hd (by omega) hn (sh_atY hd z hn (pk_le (d / 4 ^ (n - (i + 1 + 1)) % 4) (d / 4 ^ (n - (i + 1)) % 4) (fun q => nm_e (ih (i + 1) (by omega) (Or.inr z) (fun _ => ?_))) (fun q => ?_)))
      · rw [hs, decide_eq_false (by omega)]
      · rw [decide_eq_true q] at hs
        exact sh_bt (P := post) (sh_rs_m n d (n - (i + 1 + 1)) (i + 1 + 1) (by omega) hs) h
theorem sh_rsY {post : Int32 → Prop} {n d : Nat} (hd : d < 2 ^ 31) (hn : n ≤ 6) (h : post (sh_b (sh_rs n d))) : wpY_rises post (f1, le, dg, kn, kd, na, nb, mk) (nI n) (nI d) :=
  ⟨n + 1, sh_rs2 hd hn h (n + 1) 0 (by omega) (Or.inl rfl) (fun _ => sh_rs_1 _)⟩
theorem sh_oc_le (A : Nat) : ∀ n d, sh_oc A n d ≤ n := by
  intro n
  induction n with
  | zero => intro d; exact Nat.le_refl _
  | succ n ih =>
    intro d
    have h := ih (d / 4)
    show sh_oc A n (d / 4) + (if d % 4 = A then 1 else 0) ≤ n + 1
    split <;> omega
theorem sh_sm_le : ∀ n d, sh_sm n d ≤ 3 * n := by
  intro n
  induction n with
  | zero => intro d; exact Nat.le_refl _
  | succ n ih =>
    intro d
    have h := ih (d / 4)
    show sh_sm n (d / 4) + d % 4 ≤ 3 * (n + 1)
    omega
end
section
variable {a b n d : Nat}
theorem sh_me0 : sh_me 0 a b n d = decide (sh_sm n d % a = b) := rfl
theorem sh_me1 : sh_me 1 a b n d = decide (b ≤ sh_oc a n d) := rfl
theorem sh_me2 : sh_me 2 a b n d = decide (sh_oc a n d ≤ b) := rfl
theorem sh_me3 : sh_me 3 a b n d = sh_pr a b n d := rfl
theorem sh_me4 : sh_me 4 a b n d = !(sh_pr a b n d) := rfl
theorem sh_me5 : sh_me 5 a b n d = decide (0 < n ∧ a ≤ d / 4 ^ (n - 1) % 4) := rfl
theorem sh_me6 : sh_me 6 a b n d = decide (0 < n ∧ a ≤ d % 4) := rfl
theorem sh_me7 : sh_me 7 a b n d = decide (a ≤ n) := rfl
theorem sh_me8 : sh_me 8 a b n d = sh_rs n d := rfl
theorem sh_me9 : sh_me 9 a b n d = decide (sh_oc a n d % 2 = b) := rfl
end
section
variable {f1 le dg kn : Int32} {kd na nb mk : Nat → Int32}
theorem sh_meY0 {post : Int32 → Prop} {n d K A B : Nat} {ka aa ba : Int32} (hd : d < 2 ^ 31) (hn : n ≤ 6) (G0 : sh_Gn K A B) (ek : ka = nI K) (ea : K ≠ 8 → aa = nI A) (eb : K ≤ 4 ∨ K = 9 → ba = nI B) (h : post (sh_b (sh_me K A B n d))) : wpY_meets post (f1, le, dg, kn, kd, na, nb, mk) (nI n) (nI d) ka aa ba := by
  have ho := sh_oc_le A n d
  have hm := sh_sm_le n d
  unfold wpY_meets
  dsimp only
  subst ek
  obtain ⟨g0, g1, g2, g3, g4, g5, g6, g7, g8⟩ := G0
  rcases sh_k10 g0 with rfl | rfl | rfl | rfl | rfl | rfl | rfl | rfl | rfl | rfl
  · have ea := ea (by decide)
    have eb := eb (by decide)
    subst ea eb
    have h3 := g3 rfl
    have h1 := g1 (by decide)
    refine br_t rfl (br_f (nI_nle (by omega) (by omega)) (sh_smY hd hn ⟨nI_ne0 (by omega) (by omega), ?_⟩))
    rw [pk_rem (by omega) (by omega) (by omega)]
    have hlt := Nat.mod_lt (sh_sm n d) (y := A) (by omega)
    refine pk_eq (sh_sm n d % A) B (fun q => ?_) (fun q => ?_)
    · exact sh_bt (P := post) (sh_me0.trans (decide_eq_true q)) h
    · exact sh_bf (P := post) (sh_me0.trans (decide_eq_false q)) h
  · have ea := ea (by decide)
    have eb := eb (by decide)
    subst ea eb
    have h4 := g4 rfl
    have h1 := g1 (by decide)
    refine br_f (by decide) (br_t rfl (sh_ocY hd hn (by omega) (pk_lt (sh_oc A n d) B (fun q => ?_) (fun q => ?_))))
    · exact sh_bf (P := post) (sh_me1.trans (decide_eq_false (by omega))) h
    · exact sh_bt (P := post) (sh_me1.trans (decide_eq_true q)) h
  · have ea := ea (by decide)
    have eb := eb (by decide)
    subst ea eb
    have h5 := g5 rfl
    have h1 := g1 (by decide)
    refine br_f (by decide) (br_f (by decide) (br_t rfl (sh_ocY hd hn (by omega) (pk_lt B (sh_oc A n d) (fun q => ?_) (fun q => ?_)))))
    · exact sh_bf (P := post) (sh_me2.trans (decide_eq_false (by omega))) h
    · exact sh_bt (P := post) (sh_me2.trans (decide_eq_true q)) h
  · have ea := ea (by decide)
    have eb := eb (by decide)
    subst ea eb
    have h6 := g6 rfl
    have h1 := g2 (by decide) (by decide)
    exact br_f (by decide) (br_f (by decide) (br_f (by decide) (br_t rfl (sh_prY hd hn h1 h6 ⟨sh_nb _, h⟩))))
  · have ea := ea (by decide)
    have eb := eb (by decide)
    subst ea eb
    have h7 := g7 rfl
    have h1 := g2 (by decide) (by decide)
    refine br_f (by decide) (br_f (by decide) (br_f (by decide) (br_f (by decide) (br_t rfl (sh_prY hd hn h1 h7 (sh_br (fun q => ?_) (fun q => ?_)))))))
    · exact sh_bt (P := post) (sh_me4.trans (by rw [q]; rfl)) h
    · exact sh_bf (P := post) (sh_me4.trans (by rw [q]; rfl)) h
  · have ea := ea (by decide)
    subst ea
    have h1 := g2 (by decide) (by decide)
    refine br_f (by decide) (br_f (by decide) (br_f (by decide) (br_f (by decide) (br_f (by decide) (br_t rfl (pk_le n 0 (fun q => ?_) (fun q => ?_)))))))
    · exact sh_bf (P := post) (sh_me5.trans (decide_eq_false (by omega))) h
    · refine sh_atY (i := 0) hd q hn ?_
      rw [Nat.zero_add]
      refine pk_lt (d / 4 ^ (n - 1) % 4) A (fun q2 => ?_) (fun q2 => ?_)
      · exact sh_bf (P := post) (sh_me5.trans (decide_eq_false (fun y => by have := y.2; omega))) h
      · exact sh_bt (P := post) (sh_me5.trans (decide_eq_true ⟨q, q2⟩)) h
  · have ea := ea (by decide)
    subst ea
    have h1 := g2 (by decide) (by decide)
    refine br_f (by decide) (br_f (by decide) (br_f (by decide) (br_f (by decide) (br_f (by decide) (br_f (by decide) (br_t rfl (pk_le n 0 (fun q => ?_) (fun q => ?_))))))))
    · exact sh_bf (P := post) (sh_me6.trans (decide_eq_false (by omega))) h
    · rw [show nI n - 1 = nI (n - 1) from pk_sub (b := 1) (by omega)]
      refine sh_atY hd (by omega) hn ?_
      rw [show n - (n - 1 + 1) = 0 by omega, Nat.pow_zero, Nat.div_one]
      refine pk_lt (d % 4) A (fun q2 => ?_) (fun q2 => ?_)
      · exact sh_bf (P := post) (sh_me6.trans (decide_eq_false (by omega))) h
      · exact sh_bt (P := post) (sh_me6.trans (decide_eq_true ⟨q, q2⟩)) h
  · have ea := ea (by decide)
    subst ea
    have h1 := g2 (by decide) (by decide)
    refine br_f (by decide) (br_f (by decide) (br_f (by decide) (br_f (by decide) (br_f (by decide) (br_f (by decide) (br_f (by decide) (br_t rfl (pk_lt n A (fun q => ?_) (fun q => ?_)))))))))
    · exact sh_bf (P := post) (sh_me7.trans (decide_eq_false (by omega))) h
    · exact sh_bt (P := post) (sh_me7.trans (decide_eq_true q)) h
  · exact br_f (by decide) (br_f (by decide) (br_f (by decide) (br_f (by decide) (br_f (by decide) (br_f (by decide) (br_f (by decide) (br_f (by decide) (br_t rfl (sh_rsY hd hn ⟨sh_nb _, h⟩)))))))))
  · have ea := ea (by decide)
    have eb := eb (by decide)
    subst ea eb
    have h8 := g8 rfl
    have h1 := g2 (by decide) (by decide)
    refine br_f (by decide) (br_f (by decide) (br_f (by decide) (br_f (by decide) (br_f (by decide) (br_f (by decide) (br_f (by decide) (br_f (by decide) (br_f (by decide) (sh_ocY hd hn (by omega) ⟨by decide, ?_⟩)))))))))
    have e : nI (sh_oc A n d) - nI (sh_oc A n d) / 2 * 2 = nI (sh_oc A n d % 2) := pk_rem (d := 2) (by omega) (by decide) (by decide)
    rw [e]
    refine pk_eq (sh_oc A n d % 2) B (fun q => ?_) (fun q => ?_)
    · exact sh_bt (P := post) (sh_me9.trans (decide_eq_true q)) h
    · exact sh_bf (P := post) (sh_me9.trans (decide_eq_false q)) h
theorem sh_meY {post : Int32 → Prop} {n d i : Nat} (hd : d < 2 ^ 31) (hn : n ≤ 6) (G : sh_Gd (kd i) (na i) (nb i)) (h : post (sh_b (sh_mi kd na nb n d i))) : wpY_meets post (f1, le, dg, kn, kd, na, nb, mk) (nI n) (nI d) (kd i) (na i) (nb i) :=
  sh_meY0 hd hn G.1 G.2.1 G.2.2.1 G.2.2.2 h
end
section
variable {c : Nat} {le dg kn : Int32} {kd na nb mk : Nat → Int32}
theorem sh_fl2 {post : Int32 → Prop} {n d : Nat} (H : sh_C c kd na nb) (hd : d < 2 ^ 31) (hn : n ≤ 6) (h : post (sh_b (sh_al (sh_mi kd na nb n d) c))) : ∀ m i, i ≤ c → c - i < m → sh_al (sh_mi kd na nb n d) i = true → wY_failsList_2 post (nI n) (nI d) (nI c) le dg kn kd na nb mk m (nI i) := by
  intro m
  induction m with
  | zero => intro i hi hm _; omega
  | succ m ih =>
    intro i hi hm ha
    have hc := H.1
    refine pk_le c i (fun z => ?_) (fun z => ?_)
    · have e : i = c := by omega
      rw [e] at ha
      exact sh_bt (P := post) ha h
    · have vi : vp_in (nI i) 3 := vp_in_nI (by omega) (by decide)
      rw [nI_clamp (by omega)]
      refine ⟨vi, vi, vi, sh_meY hd hn (H.2 i z) (sh_br (fun q => ?_) (fun q => ?_))⟩
      · exact sh_bf (P := post) (sh_al_f (P := sh_mi kd na nb n d) q c z) h
      · refine nm_r (nI_1 i) (ih (i + 1) (by omega) (by omega) ?_)
        show (sh_al (sh_mi kd na nb n d) i && sh_mi kd na nb n d i) = true
        rw [ha, Bool.true_and]
        exact q
theorem sh_flY {post : Int32 → Prop} {n d : Nat} (H : sh_C c kd na nb) (hd : d < 2 ^ 31) (hn : n ≤ 6) (h : post (sh_b (sh_FL c kd na nb n d))) : wpY_failsList post (nI c, le, dg, kn, kd, na, nb, mk) (nI n) (nI d) := by
  have e : sh_FL c kd na nb n d = sh_al (sh_mi kd na nb n d) c := sh_fl_me H n d
  rw [e] at h
  exact ⟨c + 1, sh_fl2 H hd hn h (c + 1) 0 (by omega) (by omega) rfl⟩
end
end
section
theorem sh_sa_m {a b : Nat} (h : a ≤ b) : sh_sa a ≤ sh_sa b := by
  obtain ⟨m, rfl⟩ : ∃ m, b = a + m := ⟨b - a, by omega⟩
  clear h
  induction m with
  | zero => exact Nat.le_refl _
  | succ m ih =>
    exact Nat.le_trans ih (Nat.le_add_right (sh_sa (a + m)) (4 ^ (a + m)))
theorem sh_sa_l {n n' d : Nat} (h : n' < n) (hd : d < 4 ^ n') : sh_sa n' + d < sh_sa n := by
  have h1 : sh_sa (n' + 1) ≤ sh_sa n := sh_sa_m h
  have h2 : sh_sa (n' + 1) = sh_sa n' + 4 ^ n' := rfl
  omega
theorem sh_sa_7 {n d : Nat} (h : n ≤ 6) (hd : d < 4 ^ n) : sh_sa n + d < 5461 := by
  have h1 := sh_sa_l (n := 7) (Nat.lt_succ_of_le h) hd
  rw [sh_sa7] at h1
  exact h1
/-- the marks are right below list l of length n, and none is set from there on -/
def sh_MP (f : Nat → Nat → Bool) (mk : Nat → Int32) (n l : Nat) : Prop := (∀ n' d', n' < n → d' < 4 ^ n' → sh_F mk (sh_sa n' + d') = f n' d') ∧ (∀ d', d' < l → sh_F mk (sh_sa n + d') = f n d') ∧ (∀ k, sh_sa n + l ≤ k → k < 5472 → sh_F mk k = false)
theorem sh_MPt {f : Nat → Nat → Bool} {mk : Nat → Int32} {n l : Nat} (h : sh_MP f mk n l) (ht : f n l = true) : sh_MP f (upd mk ((sh_sa n + l) / 32) (mk ((sh_sa n + l) / 32) ||| ((1 : Int32) <<< (nI ((sh_sa n + l) % 32) &&& 31)))) n (l + 1) := by
  obtain ⟨h1, h2, h3⟩ := h
  refine ⟨fun n' d' hn hd => ?_, fun d' hd => ?_, fun k hk hk2 => ?_⟩
  · have := sh_sa_l hn hd
    rw [sh_Fset, h1 n' d' hn hd, decide_eq_false (by omega), Bool.or_false]
  · rw [sh_Fset]
    by_cases e : d' = l
    · rw [decide_eq_true (by omega), Bool.or_true, e, ht]
    · rw [decide_eq_false (by omega), Bool.or_false, h2 d' (by omega)]
  · rw [sh_Fset, h3 k (by omega) hk2, decide_eq_false (by omega), Bool.or_false]
theorem sh_MPf {f : Nat → Nat → Bool} {mk : Nat → Int32} {n l : Nat} (h : sh_MP f mk n l) (hn : n ≤ 6) (hl : l < 4 ^ n) (hf : f n l = false) : sh_MP f mk n (l + 1) := by
  obtain ⟨h1, h2, h3⟩ := h
  refine ⟨h1, fun d' hd => ?_, fun k hk hk2 => h3 k (by omega) hk2⟩
  by_cases e : d' = l
  · have := sh_sa_7 hn hl
    rw [e, hf]
    exact h3 _ (Nat.le_refl _) (by omega)
  · exact h2 d' (by omega)
theorem sh_MPn {f : Nat → Nat → Bool} {mk : Nat → Int32} {n : Nat} (h : sh_MP f mk n (4 ^ n)) : sh_MP f mk (n + 1) 0 := by
  obtain ⟨h1, h2, h3⟩ := h
  refine ⟨fun n' d' hn hd => ?_, fun d' hd => absurd hd (Nat.not_lt_zero d'), fun k hk hk2 => h3 k hk hk2⟩
  by_cases e : n' = n
  · subst e
    exact h2 d' hd
  · exact h1 n' d' (by omega) hd
/-- the marks are right -/
abbrev sh_OK (c : Nat) (kd na nb mk : Nat → Int32) : Prop := sh_MO (sh_nx c kd na nb) (sh_acc c kd na nb) (sh_F mk)
theorem sh_d32 {k : Nat} (h : k < 2 ^ 31) : nI k / 32 = nI (k / 32) := pk_div (d := 32) h (by decide) (by decide)
theorem sh_r32 {k : Nat} (h : k < 2 ^ 31) : nI k - nI k / 32 * 32 = nI (k % 32) := pk_rem (d := 32) h (by decide) (by decide)
section
variable {f1 le dg kn : Int32} {kd na nb mk : Nat → Int32}
theorem sh_sa4 {post : Int32 → Prop} {n : Nat} (hn : n ≤ 7) (h : post (nI (sh_sa n))) : ∀ m i, i ≤ n → n - i < m → wY_start_4 post (nI n) f1 le dg kn kd na nb mk m (nI (sh_sa i)) (nI i) := by
  intro m
  induction m with
  | zero => intro i hi hm; omega
  | succ m ih =>
    intro i hi hm
    refine pk_le n i (fun z => ?_) (fun z => ?_)
    · have e : i = n := by omega
      rw [e]
      exact h
    · refine nm_r (e' := nI (sh_sa (i + 1))) ?_ (nm_r (nI_1 i) (ih (i + 1) (by omega) (by omega)))
      rw [sh_1shl (by omega), nI_add]
      rfl
theorem sh_saY {post : Int32 → Prop} {n : Nat} (hn : n ≤ 7) (h : post (nI (sh_sa n))) : wpY_start post (f1, le, dg, kn, kd, na, nb, mk) (nI n) :=
  ⟨n + 1, sh_sa4 hn h (n + 1) 0 (by omega) (by omega)⟩
theorem sh_mkY {post : Int32 → Prop} {k : Nat} (hk : k < 5472) (h : post (sh_b (sh_F mk k))) : wpY_marked post (f1, le, dg, kn, kd, na, nb, mk) (nI k) := by
  unfold wpY_marked
  dsimp only
  rw [sh_r32 (by omega), sh_d32 (by omega), nI_clamp (by omega)]
  refine ⟨by decide, vp_in_nI (by omega) (by decide), by decide, br_c (fun q => ?_) (fun q => ?_)⟩
  · exact sh_bt (P := post) ((sh_bit _ (Nat.mod_lt _ (by decide))).mp q) h
  · exact sh_bf (P := post) (eq_false_of_ne_true (fun y => q ((sh_bit _ (Nat.mod_lt _ (by decide))).mpr y))) h
theorem sh_ln4 {post : Int32 → Prop} {n d : Nat} (hn : n ≤ 6) (hd : d < 4 ^ n) (h : post (nI n)) : ∀ m i, 1 ≤ i → i ≤ 7 → 7 - i < m → wY_lengthOf_4 post (nI (sh_sa n + d)) f1 le dg kn kd na nb mk m (nI (if i ≤ n then i - 1 else n)) (nI i) := by
  intro m
  induction m with
  | zero => intro i h1 h7 hm; omega
  | succ m ih =>
    intro i h1 h7 hm
    refine pk_le 7 i (fun z => ?_) (fun z => ?_)
    · rw [if_neg (by omega)]
      exact h
    · have hk := sh_sa_7 hn hd
      have hs : sh_sa i ≤ 5461 := by
        have := sh_sa_m h7
        rw [sh_sa7] at this
        exact this
      have hi1 := ih (i + 1) (by omega) (by omega) (by omega)
      refine sh_saY (by omega) (pk_lt (sh_sa n + d) (sh_sa i) (fun q => ?_) (fun q => ?_))
      · have hni : n < i := by
          rcases Nat.lt_or_ge n i with y | y
          · exact y
          · have := sh_sa_m y
            omega
        rw [if_neg (by omega)] at hi1
        rw [if_neg (by omega)]
        exact nm_r (nI_1 i) hi1
      · have hni : i ≤ n := by
          rcases Nat.lt_or_ge n i with y | y
          · have := sh_sa_l y hd
            omega
          · exact y
        rw [show (if i + 1 ≤ n then i + 1 - 1 else n) = i by split <;> omega] at hi1
        exact nm_r (nI_1 i) hi1
theorem sh_lnY {post : Int32 → Prop} {n d : Nat} (hn : n ≤ 6) (hd : d < 4 ^ n) (h : post (nI n)) : wpY_lengthOf post (f1, le, dg, kn, kd, na, nb, mk) (nI (sh_sa n + d)) := by
  have h1 := sh_ln4 (f1 := f1) (le := le) (dg := dg) (kn := kn) (kd := kd) (na := na) (nb := nb) (mk := mk) hn hd h 7 1 (by omega) (by omega) (by omega)
  rw [show (if 1 ≤ n then 1 - 1 else n) = 0 by split <;> omega] at h1
  exact ⟨7, h1⟩
end
section
variable {c : Nat} {le dg kn : Int32} {kd na nb : Nat → Int32}
theorem sh_m51 {post : SY → Prop} {J : Int32 → (Nat → Int32) → (Nat → Int32) → (Nat → Int32) → (Nat → Int32) → Prop} {n : Nat} (H : sh_C c kd na nb) (hn : n ≤ 6) (hJ : ∀ mk', sh_MP (sh_FL c kd na nb) mk' (n + 1) 0 → J (nI (n + 1)) kd na nb mk') : ∀ m l mk, l ≤ 4 ^ n → 4 ^ n - l < m → sh_MP (sh_FL c kd na nb) mk n l → wY_markAll_51 post J (nI n) (nI (sh_sa n)) (nI c) le dg kn m (nI l) kd na nb mk := by
  have h46 : 4 ^ n ≤ 4096 := sh_le6 hn
  intro m
  induction m with
  | zero => intro l mk hl hm _; omega
  | succ m ih =>
    intro l mk hl hm hp
    refine pk_le (4 ^ n) l (fun z => ?_) (fun z => ?_) (sh_1shl (by omega)) rfl
    · have e : l = 4 ^ n := by omega
      rw [e] at hp
      exact nm_r (nI_1 n) (hJ mk (sh_MPn hp))
    · have hk := sh_sa_7 hn z
      refine nm_r (nI_add _ _) (sh_flY H (by omega) hn (sh_br (fun q => ?_) (fun q => ?_)))
      · exact nm_r (nI_1 l) (ih (l + 1) mk (by omega) (by omega) (sh_MPf hp hn z q))
      · rw [sh_r32 (by omega), sh_d32 (by omega), nI_clamp (by omega)]
        have vi : vp_in (nI ((sh_sa n + l) / 32)) 171 := vp_in_nI (by omega) (by decide)
        exact ⟨by decide, by decide, vi, by decide, vi, nm_e (nm_r (nI_1 l) (ih (l + 1) _ (by omega) (by omega) (sh_MPt hp q)))⟩
theorem sh_m37 {post : SY → Prop} (H : sh_C c kd na nb) (hp : ∀ mk', sh_OK c kd na nb mk' → post (nI c, le, dg, kn, kd, na, nb, mk')) : ∀ m n mk, n ≤ 7 → 7 - n < m → sh_MP (sh_FL c kd na nb) mk n 0 → wY_markAll_37 post (nI c) le dg kn m (nI n) kd na nb mk := by
  intro m
  induction m with
  | zero => intro n mk hn hm _; omega
  | succ m ih =>
    intro n mk hn hm h
    refine pk_le 7 n (fun z => ?_) (fun z => ?_)
    · have e : n = 7 := by omega
      subst e
      exact hp mk (fun n' d' hn' hd' => h.1 n' d' (by omega) hd')
    · exact sh_saY (by omega) ⟨4 ^ n + 1, sh_m51 H (by omega) (fun mk' h' => ih (n + 1) mk' (by omega) (by omega) h') (4 ^ n + 1) 0 mk (Nat.zero_le _) (Nat.lt_succ_of_le (Nat.sub_le _ _)) h⟩
theorem sh_m15 {post : SY → Prop} (H : sh_C c kd na nb) (hp : ∀ mk', sh_OK c kd na nb mk' → post (nI c, le, dg, kn, kd, na, nb, mk')) : ∀ m i mk, i ≤ 171 → 171 - i < m → (∀ j, j < i → mk j = 0) → wY_markAll_15 post (nI c) le dg kn m (nI i) kd na nb mk := by
  intro m
  induction m with
  | zero => intro i mk hi hm _; omega
  | succ m ih =>
    intro i mk hi hm h
    refine pk_le 171 i (fun z => ?_) (fun z => ?_)
    · refine ⟨8, sh_m37 H hp 8 0 mk (by omega) (by omega) ⟨fun n' d' hn' _ => absurd hn' (Nat.not_lt_zero n'), fun d' hd' => absurd hd' (Nat.not_lt_zero d'), fun k _ hk2 => ?_⟩⟩
      show bt (mk (k / 32)) (k % 32) = false
      rw [h (k / 32) (by omega)]
      exact b_0 _
    · rw [nI_clamp (by omega)]
      refine ⟨vp_in_nI (by omega) (by decide), nm_e (nm_r (nI_1 i) (ih (i + 1) _ (by omega) (by omega) (fun j hj => ?_)))⟩
      by_cases e : j = i
      · rw [e]
        exact pk_us
      · rw [pk_un e]
        exact h j (by omega)
theorem sh_maY {post : SY → Prop} {mk : Nat → Int32} (H : sh_C c kd na nb) (h0 : ¬ kn = 0 → sh_OK c kd na nb mk) (hp : ∀ kn' mk', ¬ kn' = 0 → sh_OK c kd na nb mk' → post (nI c, le, dg, kn', kd, na, nb, mk')) : wpY_markAll post (nI c, le, dg, kn, kd, na, nb, mk) := by
  unfold wpY_markAll
  dsimp only
  exact br_c (fun _ => ⟨172, sh_m15 H (fun mk' h' => hp 1 mk' (by decide) h') 172 0 mk (by omega) (by omega) (fun j hj => absurd hj (Nat.not_lt_zero j))⟩) (fun z => hp kn mk z (h0 z))
theorem sh_b9 {post : Int32 → SY → Prop} {mk : Nat → Int32} {a e : Nat} (he : e ≤ 5461) (h : post (nI (sh_ct (sh_F mk) e - sh_ct (sh_F mk) a)) (nI c, le, dg, kn, kd, na, nb, mk)) : ∀ m k, a ≤ k → k ≤ e → e - k < m → wY_between_9 post (nI e) (nI c) le dg kn kd na nb mk m (nI (sh_ct (sh_F mk) k - sh_ct (sh_F mk) a)) (nI k) := by
  intro m
  induction m with
  | zero => intro k ha hk hm; omega
  | succ m ih =>
    intro k ha hk hm
    have hmo := sh_ct_mono (sh_F mk) ha
    refine pk_le e k (fun z => ?_) (fun z => ?_)
    · have e1 : k = e := by omega
      rw [e1]
      exact h
    · have hi1 := ih (k + 1) (by omega) (by omega) (by omega)
      refine sh_mkY (by omega) (sh_br (fun q => ?_) (fun q => ?_))
      · rw [sh_ct_f q] at hi1
        exact nm_r (nI_1 k) hi1
      · rw [sh_ct_t q, show sh_ct (sh_F mk) k + 1 - sh_ct (sh_F mk) a = sh_ct (sh_F mk) k - sh_ct (sh_F mk) a + 1 by omega] at hi1
        exact nm_r (nI_1 _) (nm_r (nI_1 k) hi1)
theorem sh_beY {post : Int32 → SY → Prop} {mk : Nat → Int32} {a e : Nat} (H : sh_C c kd na nb) (h0 : ¬ kn = 0 → sh_OK c kd na nb mk) (ha : a ≤ e) (he : e ≤ 5461) (hp : ∀ kn' mk', ¬ kn' = 0 → sh_OK c kd na nb mk' → post (nI (sh_ct (sh_F mk') e - sh_ct (sh_F mk') a)) (nI c, le, dg, kn', kd, na, nb, mk')) : wpY_between post (nI c, le, dg, kn, kd, na, nb, mk) (nI a) (nI e) := by
  unfold wpY_between
  dsimp only
  refine sh_maY H h0 (fun kn' mk' hk hm => ⟨e - a + 1, ?_⟩)
  have h1 := sh_b9 (c := c) (le := le) (dg := dg) (kn := kn') (kd := kd) (na := na) (nb := nb) (mk := mk') (a := a) (e := e) (post := post) he (hp kn' mk' hk hm) (e - a + 1) a (Nat.le_refl a) ha (by omega)
  rw [Nat.sub_self] at h1
  exact h1
theorem sh_fdA {post : Int32 → SY → Prop} {mk : Nat → Int32} {kk : Nat} (hk5 : kk < 5461) (hF : sh_F mk kk = true) (h : post (nI kk) (nI c, le, dg, kn, kd, na, nb, mk)) : ∀ m k, k ≤ kk → kk - k < m → wY_find_8 post (nI (sh_ct (sh_F mk) kk)) (nI c) le dg kn kd na nb mk m (nI (sh_ct (sh_F mk) k)) (nI k) := by
  intro m
  induction m with
  | zero => intro k hk hm; omega
  | succ m ih =>
    intro k hk hm
    have hl1 := sh_ct_le (sh_F mk) k
    have hl2 := sh_ct_le (sh_F mk) kk
    refine pk_le 5461 k (fun z => ?_) (fun z => ?_)
    · omega
    · refine sh_mkY (by omega) (sh_br (fun q => ?_) (fun q => pk_eq (sh_ct (sh_F mk) k) (sh_ct (sh_F mk) kk) (fun e => ?_) (fun e => ?_)))
      · have hne : k ≠ kk := by
          intro e
          rw [e, hF] at q
          exact absurd q (by decide)
        have hi1 := ih (k + 1) (by omega) (by omega)
        rw [sh_ct_f q] at hi1
        exact nm_r (nI_1 k) hi1
      · have hkk : k = kk := by
          rcases Nat.lt_or_ge k kk with y | y
          · have h1 := sh_ct_mono (sh_F mk) (a := k + 1) (b := kk) y
            rw [sh_ct_t q] at h1
            omega
          · omega
        rw [hkk]
        exact h
      · have hne : k ≠ kk := by
          intro e2
          rw [e2] at e
          exact e rfl
        have hi1 := ih (k + 1) (by omega) (by omega)
        rw [sh_ct_t q] at hi1
        exact nm_r (nI_1 _) (nm_r (nI_1 k) hi1)
theorem sh_fdN {post : Int32 → SY → Prop} {mk : Nat → Int32} {v : Int32} (hne : ∀ k, k < 5461 → sh_F mk k = true → ¬ nI (sh_ct (sh_F mk) k) = v) (h : post (-1) (nI c, le, dg, kn, kd, na, nb, mk)) : ∀ m k, k ≤ 5461 → 5461 - k < m → wY_find_8 post v (nI c) le dg kn kd na nb mk m (nI (sh_ct (sh_F mk) k)) (nI k) := by
  intro m
  induction m with
  | zero => intro k hk hm; omega
  | succ m ih =>
    intro k hk hm
    refine pk_le 5461 k (fun z => ?_) (fun z => ?_)
    · exact h
    · have hi1 := ih (k + 1) (by omega) (by omega)
      refine sh_mkY (by omega) (sh_br (fun q => ?_) (fun q => br_f (hne k z q) ?_))
      · rw [sh_ct_f q] at hi1
        exact nm_r (nI_1 k) hi1
      · rw [sh_ct_t q] at hi1
        exact nm_r (nI_1 _) (nm_r (nI_1 k) hi1)
theorem sh_e26 {post : Int32 → SY → Prop} {J : Int32 → Int32 → Prop} {mk : Nat → Int32} {n' n d cb : Nat} (hO : sh_OK c kd na nb mk) (hn : n ≤ n') (hn' : n' ≤ 6) (hd : d < 4096) (hJ : J (nI (cb + sh_ct (fun l => sh_FL c kd na nb n' l && decide (l / 4 ^ (n' - n) = d)) (4 ^ n'))) (nI (n' + 1))) : ∀ m l, l ≤ 4 ^ n' → 4 ^ n' - l < m → wY_extending_26 post J (nI n') (nI (sh_sa n')) (nI c) (nI n) (nI d) kn kd na nb mk m (nI (cb + sh_ct (fun l => sh_FL c kd na nb n' l && decide (l / 4 ^ (n' - n) = d)) l)) (nI l) := by
  have h46 : 4 ^ n' ≤ 4096 := sh_le6 hn'
  intro m
  induction m with
  | zero => intro l hl hm; omega
  | succ m ih =>
    intro l hl hm
    refine pk_le (4 ^ n') l (fun z => ?_) (fun z => ?_) (sh_1shl (by omega)) rfl
    · have e : l = 4 ^ n' := by omega
      rw [e]
      exact nm_r (nI_1 n') hJ
    · have hk := sh_sa_7 hn' z
      have hi1 := ih (l + 1) (by omega) (by omega)
      have hF : sh_F mk (sh_sa n' + l) = sh_FL c kd na nb n' l := hO n' l hn' z
      have hq : l / 4 ^ (n' - n) ≤ l := Nat.div_le_self _ _
      rw [nI_add (sh_sa n') l]
      refine sh_mkY (by omega) ?_
      rw [hF, pk_sub hn, sh_shr (by omega) (by omega)]
      refine sh_br (fun q => ?_) (fun q => pk_eq (l / 4 ^ (n' - n)) d (fun e => ?_) (fun e => ?_))
      · rw [sh_ct_f (by rw [q, Bool.false_and])] at hi1
        exact nm_r (nI_1 l) hi1
      · rw [sh_ct_t (by rw [q, Bool.true_and]; exact decide_eq_true e)] at hi1
        exact nm_r (nI_1 _) (nm_r (nI_1 l) hi1)
      · rw [sh_ct_f (by rw [q, Bool.true_and]; exact decide_eq_false e)] at hi1
        exact nm_r (nI_1 l) hi1
theorem sh_e11 {post : Int32 → SY → Prop} {mk : Nat → Int32} {n d : Nat} (hO : sh_OK c kd na nb mk) (hn : n ≤ 6) (hd : d < 4 ^ n) (h : post (nI (sh_so (fun k => sh_W c kd na nb k (sh_st (sh_nx c kd na nb) n d)) (7 - n))) (nI c, nI n, nI d, kn, kd, na, nb, mk)) : ∀ m n', n ≤ n' → n' ≤ 7 → 7 - n' < m → wY_extending_11 post (nI c) (nI n) (nI d) kn kd na nb mk m (nI (sh_so (fun k => sh_W c kd na nb k (sh_st (sh_nx c kd na nb) n d)) (n' - n))) (nI n') := by
  have h46 : 4 ^ n ≤ 4096 := sh_le6 hn
  intro m
  induction m with
  | zero => intro n' h1 h7 hm; omega
  | succ m ih =>
    intro n' h1 h7 hm
    refine pk_le 7 n' (fun z => ?_) (fun z => ?_)
    · have e : n' = 7 := by omega
      rw [e]
      exact h
    · have hi1 := ih (n' + 1) (by omega) (by omega) (by omega)
      have hx := sh_ext (nx := sh_nx c kd na nb) (ac := sh_acc c kd na nb) n (n' - n) d hd
      rw [show n + (n' - n) = n' by omega] at hx
      rw [show n' + 1 - n = (n' - n) + 1 by omega] at hi1
      refine sh_saY (by omega) ⟨4 ^ n' + 1, sh_e26 (cb := sh_so (fun k => sh_W c kd na nb k (sh_st (sh_nx c kd na nb) n d)) (n' - n)) hO h1 (by omega) (by omega) ?_ (4 ^ n' + 1) 0 (Nat.zero_le _) (Nat.lt_succ_of_le (Nat.sub_le _ _))⟩
      rw [show sh_ct (fun l => sh_FL c kd na nb n' l && decide (l / 4 ^ (n' - n) = d)) (4 ^ n') = sh_W c kd na nb (n' - n) (sh_st (sh_nx c kd na nb) n d) from hx]
      exact hi1
theorem sh_exY {post : Int32 → SY → Prop} {mk : Nat → Int32} {n d : Nat} (H : sh_C c kd na nb) (h0 : ¬ kn = 0 → sh_OK c kd na nb mk) (hn : n ≤ 6) (hd : d < 4 ^ n) (hp : ∀ kn' mk', ¬ kn' = 0 → sh_OK c kd na nb mk' → post (nI (sh_so (fun k => sh_W c kd na nb k (sh_st (sh_nx c kd na nb) n d)) (7 - n))) (nI c, nI n, nI d, kn', kd, na, nb, mk')) : wpY_extending post (nI c, nI n, nI d, kn, kd, na, nb, mk) := by
  unfold wpY_extending
  dsimp only
  refine sh_maY H h0 (fun kn' mk' hk hm => ⟨8, ?_⟩)
  have h1 := sh_e11 (c := c) (kn := kn') (kd := kd) (na := na) (nb := nb) (mk := mk') (post := post) hm hn hd (hp kn' mk' hk hm) 8 n (Nat.le_refl n) (by omega) (by omega)
  rw [Nat.sub_self] at h1
  exact h1
end
end
section
def sh_in (x lo hi : Int32) : Bool := decide (¬ x < lo ∧ ¬ hi < x)
theorem sh_inX {post : Int32 → Prop} {x lo hi : Int32} (h : post (sh_b (sh_in x lo hi))) : wpX_in post x lo hi :=
  br_c (fun q => sh_bf (P := post) (decide_eq_false (fun z => z.1 q)) h) (fun q => br_c (fun q2 => sh_bf (P := post) (decide_eq_false (fun z => z.2 q2)) h) (fun q2 => sh_bt (P := post) (decide_eq_true ⟨q, q2⟩) h))
theorem sh_in2X {post : Int32 → Prop} {a b l1 h1 l2 h2 : Int32} (h : post (sh_b (sh_in a l1 h1 && sh_in b l2 h2))) : wpX_in (fun r => (r = 0 → post 0) ∧ (¬ r = 0 → wpX_in (fun r2 => (r2 = 0 → post 0) ∧ (¬ r2 = 0 → post 1)) b l2 h2)) a l1 h1 := by
  refine sh_inX (sh_br (fun q => ?_) (fun q => sh_inX (sh_br (fun q2 => ?_) (fun q2 => ?_))))
  · exact sh_bf (P := post) (by rw [q, Bool.false_and]) h
  · exact sh_bf (P := post) (by rw [q2, Bool.and_false]) h
  · exact sh_bt (P := post) (by rw [q, q2]; rfl) h
theorem sh_in_of {x : Int32} {lo hi : Nat} (hl : lo < 2 ^ 31) (hh : hi < 2 ^ 31) (h : sh_in x (nI lo) (nI hi) = true) : ∃ X : Nat, x = nI X ∧ lo ≤ X ∧ X ≤ hi := by
  have h1 := of_decide_eq_true h
  have hx : ¬ x < 0 := by
    intro z
    refine h1.1 ?_
    rw [Int32.lt_iff_toInt_lt] at z ⊢
    rw [nI_toInt hl]
    have e : (0 : Int32).toInt = 0 := by decide
    omega
  obtain ⟨X, hX, rfl⟩ := nI_of hx
  have h2 := h1.1
  have h3 := h1.2
  rw [nI_ltI hX hl] at h2
  rw [nI_ltI hh hX] at h3
  exact ⟨X, rfl, by omega, by omega⟩
/-- whether the numbers of a condition are good -/
def sh_G (k : Nat) (a b : Int32) : Bool :=
  if k = 0 then sh_in a 2 4 && sh_in b 0 (a - 1)
  else if k = 1 then sh_in a 0 3 && sh_in b 1 3
  else if k = 2 then sh_in a 0 3 && sh_in b 0 2
  else if k = 3 then sh_in a 0 3 && sh_in b 0 3
  else if k = 4 then sh_in a 0 3 && sh_in b 0 3
  else if k = 5 then sh_in a 0 3
  else if k = 6 then sh_in a 0 3
  else if k = 7 then sh_in a 0 3
  else if k = 8 then true
  else sh_in a 0 3 && sh_in b 0 1
theorem sh_gnX {post : Int32 → Prop} {K : Nat} {a b : Int32} (hK : K ≤ 9) (h : post (sh_b (sh_G K a b))) : wpX_goodNumbers post (nI K) a b := by
  unfold wpX_goodNumbers
  rcases sh_k10 hK with rfl | rfl | rfl | rfl | rfl | rfl | rfl | rfl | rfl | rfl
  · exact br_f (by decide) (br_f (by decide) (br_t rfl (sh_in2X h)))
  · exact br_f (by decide) (br_f (by decide) (br_f (by decide) (br_t rfl (sh_in2X h))))
  · exact br_f (by decide) (br_f (by decide) (br_f (by decide) (br_f (by decide) (br_t rfl (sh_in2X h)))))
  · refine br_f (by decide) (br_f (by decide) (br_f (by decide) (br_f (by decide) (br_f (by decide) (br_t rfl ?_)))))
    unfold wX_goodNumbers_126
    exact sh_in2X h
  · refine br_f (by decide) (br_f (by decide) (br_f (by decide) (br_f (by decide) (br_f (by decide) (br_f (by decide) (br_t rfl ?_))))))
    unfold wX_goodNumbers_126
    exact sh_in2X h
  · refine br_f (by decide) (br_f (by decide) (br_f (by decide) (br_f (by decide) (br_f (by decide) (br_f (by decide) (br_f (by decide) (br_t rfl ?_)))))))
    unfold wX_goodNumbers_150
    exact sh_inX ⟨sh_nb _, h⟩
  · refine br_f (by decide) (br_f (by decide) (br_f (by decide) (br_f (by decide) (br_f (by decide) (br_f (by decide) (br_f (by decide) (br_f (by decide) (br_t rfl ?_))))))))
    unfold wX_goodNumbers_150
    exact sh_inX ⟨sh_nb _, h⟩
  · refine br_f (by decide) (br_f (by decide) (br_f (by decide) (br_f (by decide) (br_f (by decide) (br_f (by decide) (br_f (by decide) (br_f (by decide) (br_f (by decide) (br_t rfl ?_)))))))))
    unfold wX_goodNumbers_150
    exact sh_inX ⟨sh_nb _, h⟩
  · exact br_f (by decide) (br_f (by decide) (br_f (by decide) (br_f (by decide) (br_f (by decide) (br_f (by decide) (br_f (by decide) (br_f (by decide) (br_f (by decide) (br_f (by decide) (br_t rfl h))))))))))
  · exact br_f (by decide) (br_t (by decide) (sh_in2X h))
section
variable {f1 le dg kn : Int32} {kd na nb mk : Nat → Int32}
theorem sh_wiY {post : Int32 → Prop} {x lo hi : Int32} (h : post (sh_b (sh_in x lo hi))) : wpY_within post (f1, le, dg, kn, kd, na, nb, mk) x lo hi :=
  br_c (fun q => sh_bf (P := post) (decide_eq_false (fun z => z.1 q)) h) (fun q => br_c (fun q2 => sh_bf (P := post) (decide_eq_false (fun z => z.2 q2)) h) (fun q2 => sh_bt (P := post) (decide_eq_true ⟨q, q2⟩) h))
theorem sh_nb2 {post : Int32 → Prop} {p q : Bool} (e : p = true) (h : post (sh_b (p && q))) : narrow .boolean (.int (sh_b q)) = .int (sh_b q) ∧ post (sh_b q) := by
  rw [e, Bool.true_and] at h
  exact ⟨sh_nb q, h⟩
theorem sh_gnY {post : Int32 → Prop} {K : Nat} {a b : Int32} (hK : K ≤ 9) (h : post (sh_b (sh_G K a b))) : wpY_goodNumbers post (f1, le, dg, kn, kd, na, nb, mk) (nI K) a b := by
  unfold wpY_goodNumbers
  dsimp only
  rcases sh_k10 hK with rfl | rfl | rfl | rfl | rfl | rfl | rfl | rfl | rfl | rfl
  · have h2 : post (sh_b (sh_in a 2 4 && sh_in b 0 (a - 1))) := h
    refine br_t rfl (sh_wiY (sh_br (fun q => ?_) (fun q => sh_wiY (sh_br (fun q2 => ?_) (fun q2 => ?_)))))
    · exact sh_bf (P := post) (by rw [q, Bool.false_and]) h2
    · exact sh_bf (P := post) (by rw [q2, Bool.and_false]) h2
    · exact sh_bt (P := post) (by rw [q, q2]; rfl) h2
  · have h2 : post (sh_b (sh_in a 0 3 && sh_in b 1 3)) := h
    refine br_f (by decide) (br_f (by decide) (sh_wiY (sh_br (fun q => ?_) (fun q => br_t rfl (sh_wiY (sh_nb2 q h2))))))
    exact sh_bf (P := post) (by rw [q, Bool.false_and]) h2
  · have h2 : post (sh_b (sh_in a 0 3 && sh_in b 0 2)) := h
    refine br_f (by decide) (br_f (by decide) (sh_wiY (sh_br (fun q => ?_) (fun q => br_f (by decide) (br_t rfl (sh_wiY (sh_nb2 q h2)))))))
    exact sh_bf (P := post) (by rw [q, Bool.false_and]) h2
  · have h2 : post (sh_b (sh_in a 0 3 && sh_in b 0 3)) := h
    refine br_f (by decide) (br_f (by decide) (sh_wiY (sh_br (fun q => ?_) (fun q => br_f (by decide) (br_f (by decide) (br_t rfl ?_))))))
    · exact sh_bf (P := post) (by rw [q, Bool.false_and]) h2
    · unfold wY_goodNumbers_88
      exact sh_wiY (sh_nb2 q h2)
  · have h2 : post (sh_b (sh_in a 0 3 && sh_in b 0 3)) := h
    refine br_f (by decide) (br_f (by decide) (sh_wiY (sh_br (fun q => ?_) (fun q => br_f (by decide) (br_f (by decide) (br_f (by decide) (br_t rfl ?_)))))))
    · exact sh_bf (P := post) (by rw [q, Bool.false_and]) h2
    · unfold wY_goodNumbers_88
      exact sh_wiY (sh_nb2 q h2)
  · have h2 : post (sh_b (sh_in a 0 3)) := h
    refine br_f (by decide) (br_f (by decide) (sh_wiY (sh_br (fun q => ?_) (fun q => br_f (by decide) (br_f (by decide) (br_f (by decide) (br_f (by decide) (br_f (by decide) ?_))))))))
    · exact sh_bf (P := post) q h2
    · exact sh_bt (P := post) q h2
  · have h2 : post (sh_b (sh_in a 0 3)) := h
    refine br_f (by decide) (br_f (by decide) (sh_wiY (sh_br (fun q => ?_) (fun q => br_f (by decide) (br_f (by decide) (br_f (by decide) (br_f (by decide) (br_f (by decide) ?_))))))))
    · exact sh_bf (P := post) q h2
    · exact sh_bt (P := post) q h2
  · have h2 : post (sh_b (sh_in a 0 3)) := h
    refine br_f (by decide) (br_f (by decide) (sh_wiY (sh_br (fun q => ?_) (fun q => br_f (by decide) (br_f (by decide) (br_f (by decide) (br_f (by decide) (br_f (by decide) ?_))))))))
    · exact sh_bf (P := post) q h2
    · exact sh_bt (P := post) q h2
  · exact br_f (by decide) (br_t rfl h)
  · have h2 : post (sh_b (sh_in a 0 3 && sh_in b 0 1)) := h
    refine br_f (by decide) (br_f (by decide) (sh_wiY (sh_br (fun q => ?_) (fun q => br_f (by decide) (br_f (by decide) (br_f (by decide) (br_f (by decide) (br_t rfl (sh_wiY (sh_br (fun q2 => ?_) (fun q2 => ?_)))))))))))
    · exact sh_bf (P := post) (by rw [q, Bool.false_and]) h2
    · exact sh_bf (P := post) (by rw [q2, Bool.and_false]) h2
    · exact sh_bt (P := post) (by rw [q, q2]; rfl) h2
end
theorem sh_an {p q : Bool} (h : (p && q) = true) : p = true ∧ q = true := by
  rw [Bool.and_eq_true] at h
  exact h
theorem sh_Gd2 {K A B : Nat} (hK : K ≤ 9) (hA : A < 2 ^ 31) (hB : B < 2 ^ 31) (h : sh_Gn K A B) : sh_Gd (nI K) (nI A) (nI B) := by
  have ck : sh_n (nI K) = K := nI_clamp (by omega)
  have ca : sh_n (nI A) = A := nI_clamp hA
  have cb : sh_n (nI B) = B := nI_clamp hB
  unfold sh_Gd
  rw [ck, ca, cb]
  exact ⟨h, rfl, fun _ => rfl, fun _ => rfl⟩
theorem sh_G_ok {K : Nat} {a b : Int32} (hK : K ≤ 9) (h : sh_G K a b = true) : sh_Gd (nI K) a b := by
  rcases sh_k10 hK with rfl | rfl | rfl | rfl | rfl | rfl | rfl | rfl | rfl | rfl
  · have h2 := sh_an (p := sh_in a 2 4) (q := sh_in b 0 (a - 1)) h
    obtain ⟨A, rfl, h3, h4⟩ := sh_in_of (lo := 2) (hi := 4) (by decide) (by decide) h2.1
    have h5 := h2.2
    rw [show nI A - 1 = nI (A - 1) from pk_sub (b := 1) (by omega)] at h5
    obtain ⟨B, rfl, h6, h7⟩ := sh_in_of (lo := 0) (hi := A - 1) (by decide) (by omega) h5
    refine sh_Gd2 hK (by omega) (by omega) ⟨?_, ?_, ?_, ?_, ?_, ?_, ?_, ?_, ?_⟩ <;> intros <;> omega
  · have h2 := sh_an (p := sh_in a 0 3) (q := sh_in b 1 3) h
    obtain ⟨A, rfl, h3, h4⟩ := sh_in_of (lo := 0) (hi := 3) (by decide) (by decide) h2.1
    obtain ⟨B, rfl, h6, h7⟩ := sh_in_of (lo := 1) (hi := 3) (by decide) (by decide) h2.2
    refine sh_Gd2 hK (by omega) (by omega) ⟨?_, ?_, ?_, ?_, ?_, ?_, ?_, ?_, ?_⟩ <;> intros <;> omega
  · have h2 := sh_an (p := sh_in a 0 3) (q := sh_in b 0 2) h
    obtain ⟨A, rfl, h3, h4⟩ := sh_in_of (lo := 0) (hi := 3) (by decide) (by decide) h2.1
    obtain ⟨B, rfl, h6, h7⟩ := sh_in_of (lo := 0) (hi := 2) (by decide) (by decide) h2.2
    refine sh_Gd2 hK (by omega) (by omega) ⟨?_, ?_, ?_, ?_, ?_, ?_, ?_, ?_, ?_⟩ <;> intros <;> omega
  · have h2 := sh_an (p := sh_in a 0 3) (q := sh_in b 0 3) h
    obtain ⟨A, rfl, h3, h4⟩ := sh_in_of (lo := 0) (hi := 3) (by decide) (by decide) h2.1
    obtain ⟨B, rfl, h6, h7⟩ := sh_in_of (lo := 0) (hi := 3) (by decide) (by decide) h2.2
    refine sh_Gd2 hK (by omega) (by omega) ⟨?_, ?_, ?_, ?_, ?_, ?_, ?_, ?_, ?_⟩ <;> intros <;> omega
  · have h2 := sh_an (p := sh_in a 0 3) (q := sh_in b 0 3) h
    obtain ⟨A, rfl, h3, h4⟩ := sh_in_of (lo := 0) (hi := 3) (by decide) (by decide) h2.1
    obtain ⟨B, rfl, h6, h7⟩ := sh_in_of (lo := 0) (hi := 3) (by decide) (by decide) h2.2
    refine sh_Gd2 hK (by omega) (by omega) ⟨?_, ?_, ?_, ?_, ?_, ?_, ?_, ?_, ?_⟩ <;> intros <;> omega
  · obtain ⟨A, rfl, h3, h4⟩ := sh_in_of (lo := 0) (hi := 3) (by decide) (by decide) (show sh_in a 0 3 = true from h)
    have ca : sh_n (nI A) = A := nI_clamp (by omega)
    have ck : sh_n (nI 5) = 5 := nI_clamp (by omega)
    unfold sh_Gd
    rw [ca, ck]
    refine ⟨⟨?_, ?_, ?_, ?_, ?_, ?_, ?_, ?_, ?_⟩, rfl, fun _ => rfl, fun z => absurd z (by decide)⟩ <;> intros <;> omega
  · obtain ⟨A, rfl, h3, h4⟩ := sh_in_of (lo := 0) (hi := 3) (by decide) (by decide) (show sh_in a 0 3 = true from h)
    have ca : sh_n (nI A) = A := nI_clamp (by omega)
    have ck : sh_n (nI 6) = 6 := nI_clamp (by omega)
    unfold sh_Gd
    rw [ca, ck]
    refine ⟨⟨?_, ?_, ?_, ?_, ?_, ?_, ?_, ?_, ?_⟩, rfl, fun _ => rfl, fun z => absurd z (by decide)⟩ <;> intros <;> omega
  · obtain ⟨A, rfl, h3, h4⟩ := sh_in_of (lo := 0) (hi := 3) (by decide) (by decide) (show sh_in a 0 3 = true from h)
    have ca : sh_n (nI A) = A := nI_clamp (by omega)
    have ck : sh_n (nI 7) = 7 := nI_clamp (by omega)
    unfold sh_Gd
    rw [ca, ck]
    refine ⟨⟨?_, ?_, ?_, ?_, ?_, ?_, ?_, ?_, ?_⟩, rfl, fun _ => rfl, fun z => absurd z (by decide)⟩ <;> intros <;> omega
  · have ck : sh_n (nI 8) = 8 := nI_clamp (by omega)
    unfold sh_Gd
    rw [ck]
    refine ⟨⟨?_, ?_, ?_, ?_, ?_, ?_, ?_, ?_, ?_⟩, rfl, fun z => absurd rfl z, fun z => absurd z (by decide)⟩ <;> intros <;> omega
  · have h2 := sh_an (p := sh_in a 0 3) (q := sh_in b 0 1) h
    obtain ⟨A, rfl, h3, h4⟩ := sh_in_of (lo := 0) (hi := 3) (by decide) (by decide) h2.1
    obtain ⟨B, rfl, h6, h7⟩ := sh_in_of (lo := 0) (hi := 1) (by decide) (by decide) h2.2
    refine sh_Gd2 hK (by omega) (by omega) ⟨?_, ?_, ?_, ?_, ?_, ?_, ?_, ?_, ?_⟩ <;> intros <;> omega
end
section
section
variable {c : Nat} {le dg kn : Int32} {kd na nb mk : Nat → Int32}
theorem sh_ct7 {mk' : Nat → Int32} (hm : sh_OK c kd na nb mk') : sh_ct (sh_F mk') 5461 = sh_TT c kd na nb 7 := by
  have h := sh_lv0 hm 7 (Nat.le_refl 7)
  rw [sh_sa7] at h
  exact h
theorem sh_fdYN {post : Int32 → SY → Prop} {v : Int32} (H : sh_C c kd na nb) (h0 : ¬ kn = 0 → sh_OK c kd na nb mk) (hv : v < 0 ∨ ¬ v < nI (sh_TT c kd na nb 7)) (hp : ∀ kn' mk', ¬ kn' = 0 → sh_OK c kd na nb mk' → post (-1) (nI c, le, dg, kn', kd, na, nb, mk')) : wpY_find post (nI c, le, dg, kn, kd, na, nb, mk) v := by
  unfold wpY_find
  dsimp only
  refine sh_maY H h0 (fun kn' mk' hk hm => ⟨5462, sh_fdN (fun k hk5 hF e => ?_) (hp kn' mk' hk hm) 5462 0 (by omega) (by omega)⟩)
  have h7 : sh_TT c kd na nb 7 ≤ 5461 := sh_T7
  have h1 := sh_ct_le (sh_F mk') k
  have h2 := sh_ct_mono (sh_F mk') (a := k + 1) (b := 5461) hk5
  rw [sh_ct_t hF, sh_ct7 hm] at h2
  subst e
  rcases hv with z | z
  · exact nI_pos (by omega) z
  · exact z (nI_lt (by omega) (by omega))
theorem sh_fdYA {post : Int32 → SY → Prop} {v : Int32} {len p : Nat} (H : sh_C c kd na nb) (h0 : ¬ kn = 0 → sh_OK c kd na nb mk) (hl : len ≤ 6) (hp : p < 4 ^ len) (hF : sh_FL c kd na nb len p = true) (hv : v = nI (sh_TT c kd na nb len + sh_ct (sh_FL c kd na nb len) p)) (hq : ∀ kn' mk', ¬ kn' = 0 → sh_OK c kd na nb mk' → post (nI (sh_sa len + p)) (nI c, le, dg, kn', kd, na, nb, mk')) : wpY_find post (nI c, le, dg, kn, kd, na, nb, mk) v := by
  unfold wpY_find
  dsimp only
  refine sh_maY H h0 (fun kn' mk' hk hm => ?_)
  have e : sh_ct (sh_F mk') (sh_sa len + p) = sh_TT c kd na nb len + sh_ct (sh_FL c kd na nb len) p := sh_lv hm hl (Nat.le_of_lt hp)
  have hF2 : sh_F mk' (sh_sa len + p) = true := (hm len p hl hp).trans hF
  have h1 := sh_fdA (c := c) (le := le) (dg := dg) (kn := kn') (kd := kd) (na := na) (nb := nb) (mk := mk') (post := post) (sh_sa_7 hl hp) hF2 (hq kn' mk' hk hm) (sh_sa len + p + 1) 0 (by omega) (by omega)
  rw [e, ← hv] at h1
  exact ⟨_, h1⟩
end
/-- what relates the two states -/
def sh_R (c n d : Nat) (fr kn : Int32) (kd na nb sg wy mk : Nat → Int32) : Prop := sh_C c kd na nb ∧ n ≤ 6 ∧ d < 4 ^ n ∧ sh_Sg sg n d ∧ (¬ fr = 0 → sh_WP (sh_W c kd na nb) wy 7 0) ∧ (¬ kn = 0 → sh_OK c kd na nb mk)
def i_Rel (k : Nat) (u : SX) (v : SY) : Prop := ∃ (c n d : Nat) (fl fr kn : Int32) (kd na nb sg fo wy mk : Nat → Int32), u = (nI c, nI n, fl, fr, kd, na, nb, sg, fo, wy) ∧ v = (nI c, nI n, nI d, kn, kd, na, nb, mk) ∧ sh_R c n d fr kn kd na nb sg wy mk
theorem sh_rel {k c n d : Nat} {fl fr kn : Int32} {kd na nb sg fo wy mk : Nat → Int32} (h : sh_R c n d fr kn kd na nb sg wy mk) : i_Rel k (nI c, nI n, fl, fr, kd, na, nb, sg, fo, wy) (nI c, nI n, nI d, kn, kd, na, nb, mk) := ⟨c, n, d, fl, fr, kn, kd, na, nb, sg, fo, wy, mk, rfl, rfl, h⟩
theorem i_up {k : Nat} {u : SX} {v : SY} (h : i_Rel k u v) : i_Rel (k + 4) u v := h
theorem i_vc0 : wpX_init (fun u => wpY_init (fun v => i_Rel 0 u v)) :=
  sh_rel (k := 0) (c := 0) (n := 0) (d := 0) ⟨⟨by decide, fun i hi => absurd hi (Nat.not_lt_zero i)⟩, by decide, by decide, fun j hj => absurd hj (Nat.not_lt_zero j), fun z => absurd rfl z, fun z => absurd rfl z⟩
theorem sh_Cs {c K : Nat} {kd na nb : Nat → Int32} {a b : Int32} (H : sh_C c kd na nb) (hc : c < 3) (hK : K ≤ 9) (h : sh_G K a b = true) : sh_C (c + 1) (upd kd c (nI K)) (upd na c a) (upd nb c b) := by
  refine ⟨hc, fun i hi => ?_⟩
  by_cases e : i = c
  · subst e
    rw [pk_us, pk_us, pk_us]
    exact sh_G_ok hK h
  · rw [pk_un e, pk_un e, pk_un e]
    exact H.2 i (by omega)
theorem i_vc_condition {k : Nat} {u : SX} {v : SY} (I : i_Rel k u v) (hk : k + 4 ≤ 2048) (v1 : Int32) (v2 : Int32) (v3 : Int32) : wpX_condition (fun r u' => wpY_condition (fun r' v' => r' = r ∧ i_Rel (k + 4) u' v') v v1 v2 v3) u v1 v2 v3 := by
  obtain ⟨c, n, d, fl, fr, kn, kd, na, nb, sg, fo, wy, mk, rfl, rfl, R⟩ := I
  have H := R.1
  have hc := H.1
  unfold wpX_condition wpY_condition
  dsimp only
  by_cases z0 : v1 < 0
  · exact br_t z0 (br_t z0 ⟨rfl, sh_rel R⟩)
  · by_cases z9 : v1 ≤ 9
    · obtain ⟨K, hK, rfl⟩ := nI_of2 (M := 9) (n := 9) (by decide) z0 z9
      refine br_f z0 (br_t z9 (sh_gnX hK (sh_br (fun q => ?_) (fun q => pk_lt c 3 (fun z3 => ?_) (fun z3 => ?_)))))
      · refine br_f z0 (br_t z9 (sh_gnY hK (br_t (by rw [q]; rfl) ⟨rfl, sh_rel R⟩)))
      · have vi : vp_in (nI c) 3 := vp_in_nI z3 (by decide)
        have hn3 : ¬ nI c = 3 := fun e => by
          have := (nI_eq (a := c) (b := 3) (by omega) (by omega)).mp e
          omega
        have e1 : (nI c).toNatClampNeg = c := nI_clamp (by omega)
        rw [e1]
        refine ⟨vi, nm_e ⟨vi, nm_e ⟨vi, nm_e (nm_r (nI_1 c) (br_f z0 (br_t z9 (sh_gnY hK (br_f (by rw [q]; decide) (br_f hn3 ⟨vi, nm_e ⟨vi, nm_e ⟨vi, nm_e (nm_r (nI_1 c) ⟨rfl, sh_rel ?_⟩)⟩⟩⟩))))))⟩⟩⟩
        exact ⟨sh_Cs H z3 hK q, R.2.1, R.2.2.1, R.2.2.2.1, fun z => absurd rfl z, fun z => absurd rfl z⟩
      · have e3 : c = 3 := by omega
        subst e3
        exact br_f z0 (br_t z9 (sh_gnY hK (br_f (by rw [q]; decide) (br_t rfl ⟨rfl, sh_rel R⟩))))
    · exact br_f z0 (br_f z9 (br_f z0 (br_f z9 ⟨rfl, sh_rel R⟩)))
theorem i_vc_drop {k : Nat} {u : SX} {v : SY} (I : i_Rel k u v) (hk : k + 4 ≤ 2048) : wpX_drop (fun r u' => wpY_drop (fun r' v' => r' = r ∧ i_Rel (k + 4) u' v') v) u := by
  obtain ⟨c, n, d, fl, fr, kn, kd, na, nb, sg, fo, wy, mk, rfl, rfl, R⟩ := I
  have H := R.1
  have hc := H.1
  unfold wpX_drop wpY_drop
  dsimp only
  refine pk_eq c 0 (fun z => ?_) (fun z => ?_)
  · subst z
    exact br_t rfl ⟨rfl, sh_rel R⟩
  · have e : nI c - 1 = nI (c - 1) := pk_sub (b := 1) (by omega)
    refine nm_r e (br_f (nI_ne0 (by omega) (by omega)) (nm_r e ⟨rfl, sh_rel ?_⟩))
    exact ⟨⟨by omega, fun i hi => H.2 i (by omega)⟩, R.2.1, R.2.2.1, R.2.2.2.1, fun z => absurd rfl z, fun z => absurd rfl z⟩
theorem i_vc_push {k : Nat} {u : SX} {v : SY} (I : i_Rel k u v) (hk : k + 4 ≤ 2048) (v1 : Int32) : wpX_push (fun r u' => wpY_push (fun r' v' => r' = r ∧ i_Rel (k + 4) u' v') v v1) u v1 := by
  obtain ⟨c, n, d, fl, fr, kn, kd, na, nb, sg, fo, wy, mk, rfl, rfl, R⟩ := I
  obtain ⟨H, hn, hd, hg, hw, hm⟩ := R
  unfold wpX_push wpY_push
  dsimp only
  by_cases z0 : v1 < 0
  · exact br_t z0 (br_t z0 ⟨rfl, sh_rel ⟨H, hn, hd, hg, hw, hm⟩⟩)
  · by_cases z3 : v1 ≤ 3
    · obtain ⟨x, hx, rfl⟩ := nI_of2 (M := 3) (n := 3) (by decide) z0 z3
      refine br_f z0 (br_t z3 (pk_lt n 6 (fun z => ?_) (fun z => ?_)))
      · have hn6 : ¬ nI n = 6 := fun e => by
          have := (nI_eq (a := n) (b := 6) (by omega) (by omega)).mp e
          omega
        have ed : nI d * 4 + nI x = nI (4 * d + x) := by
          rw [show (4 : Int32) = nI 4 from rfl, pk_mul, nI_add, Nat.mul_comm]
        rw [nI_clamp (by omega)]
        refine ⟨vp_in_nI z (by decide), nm_e (nm_r (nI_1 n) (br_f z0 (br_t z3 (br_f hn6 (nm_r ed (nm_r (nI_1 n) ⟨rfl, sh_rel ?_⟩))))))⟩
        refine ⟨H, by omega, ?_, sh_sg1 hg (by omega), hw, hm⟩
        rw [Nat.pow_succ]
        omega
      · have e : n = 6 := by omega
        subst e
        exact br_f z0 (br_t z3 (br_t rfl ⟨rfl, sh_rel ⟨H, hn, hd, hg, hw, hm⟩⟩))
    · exact br_f z0 (br_f z3 (br_f z0 (br_f z3 ⟨rfl, sh_rel ⟨H, hn, hd, hg, hw, hm⟩⟩)))
theorem i_vc_empty {k : Nat} {u : SX} {v : SY} (I : i_Rel k u v) (hk : k + 4 ≤ 2048) : wpX_empty (fun u' => wpY_empty (fun v' => i_Rel (k + 4) u' v') v) u := by
  obtain ⟨c, n, d, fl, fr, kn, kd, na, nb, sg, fo, wy, mk, rfl, rfl, R⟩ := I
  obtain ⟨H, hn, hd, hg, hw, hm⟩ := R
  exact sh_rel (k := k + 4) (n := 0) (d := 0) ⟨H, by decide, by decide, fun j hj => absurd hj (Nat.not_lt_zero j), hw, hm⟩
theorem i_vc_load {k : Nat} {u : SX} {v : SY} (I : i_Rel k u v) (hk : k + 4 ≤ 2048) (v1 : Int32) : wpX_load (fun r u' => wpY_load (fun r' v' => r' = r ∧ i_Rel (k + 4) u' v') v v1) u v1 := by
  obtain ⟨c, n, d, fl, fr, kn, kd, na, nb, sg, fo, wy, mk, rfl, rfl, R⟩ := I
  obtain ⟨H, hn, hd, hg, hw, hm⟩ := R
  unfold wpX_load
  dsimp only
  refine sh_findX H hw (fun hv fr' wy' hf hw' => br_t rfl ?_) (fun M hM hv fr' wy' len fo' p hf hw' hl hp hF hc hs => br_f (by decide) ⟨len + 1, sh_l23 hl (fun sg' hsg => ?_) (len + 1) 0 sg (by omega) (by omega) (fun j hj => absurd hj (Nat.not_lt_zero j))⟩)
  · unfold wpY_load
    dsimp only
    exact sh_fdYN H hm hv (fun kn' mk' hk' hm' => br_f (by decide) ⟨rfl, sh_rel ⟨H, hn, hd, hg, fun _ => hw', fun _ => hm'⟩⟩)
  · unfold wpY_load
    dsimp only
    have h5 := sh_sa_7 hl hp
    have ed : nI (sh_sa len + p) - nI (sh_sa len) = nI p := by
      rw [pk_sub (by omega), Nat.add_sub_cancel_left]
    exact sh_fdYA H hm hl hp hF (by rw [hv, hc]) (fun kn' mk' hk' hm' => br_t (nI_pos' (by omega)) (sh_lnY hl hp (sh_saY (by omega) (nm_r ed ⟨rfl, sh_rel ⟨H, hl, hp, fun j hj => (hsg j hj).trans (hs j hj), fun _ => hw', fun _ => hm'⟩⟩))))
theorem i_vc_failing {k : Nat} {u : SX} {v : SY} (I : i_Rel k u v) (hk : k + 4 ≤ 2048) : wpX_failing (fun r u' => wpY_failing (fun r' v' => r' = r ∧ i_Rel (k + 4) u' v') v) u := by
  obtain ⟨c, n, d, fl, fr, kn, kd, na, nb, sg, fo, wy, mk, rfl, rfl, R⟩ := I
  obtain ⟨H, hn, hd, hg, hw, hm⟩ := R
  unfold wpX_failing
  dsimp only
  refine sh_totX H hw (fun fr' wy' hf hw' => ?_)
  dsimp only
  unfold wpY_failing
  dsimp only
  refine sh_beY (a := 0) (e := 5461) H hm (by decide) (by decide) (fun kn' mk' hk' hm' => ?_)
  dsimp only
  refine ⟨?_, sh_rel ⟨H, hn, hd, hg, fun _ => hw', fun _ => hm'⟩⟩
  rw [sh_ct7 hm']
  rfl
theorem i_vc_failingOf {k : Nat} {u : SX} {v : SY} (I : i_Rel k u v) (hk : k + 4 ≤ 2048) (v1 : Int32) : wpX_failingOf (fun r u' => wpY_failingOf (fun r' v' => r' = r ∧ i_Rel (k + 4) u' v') v v1) u v1 := by
  obtain ⟨c, n, d, fl, fr, kn, kd, na, nb, sg, fo, wy, mk, rfl, rfl, R⟩ := I
  obtain ⟨H, hn, hd, hg, hw, hm⟩ := R
  unfold wpX_failingOf wpY_failingOf
  dsimp only
  by_cases z0 : v1 < 0
  · exact br_t z0 (br_t z0 ⟨rfl, sh_rel ⟨H, hn, hd, hg, hw, hm⟩⟩)
  · by_cases z6 : v1 ≤ 6
    · obtain ⟨x, hx, rfl⟩ := nI_of2 (M := 6) (n := 6) (by decide) z0 z6
      refine br_f z0 (br_t z6 (sh_prepX H hw (fun fr' wy' hf hw' => ?_)))
      dsimp only
      refine ⟨sh_wi (s := 256) hx (by decide), br_f z0 (br_t z6 (sh_saY (by omega) ?_))⟩
      rw [nI_1 x]
      have h7 : sh_sa (x + 1) ≤ 5461 := by
        have h := sh_sa_m (a := x + 1) (b := 7) (by omega)
        rw [sh_sa7] at h
        exact h
      refine sh_saY (by omega) (sh_beY H hm (sh_sa_m (Nat.le_succ x)) h7 (fun kn' mk' hk' hm' => ?_))
      dsimp only
      refine ⟨?_, sh_rel ⟨H, hn, hd, hg, fun _ => hw', fun _ => hm'⟩⟩
      rw [sh_lv0 hm' (x + 1) (by omega), sh_lv0 hm' x (by omega)]
      refine Eq.trans ?_ (sh_wr hw' (s := 256) hx (by decide)).symm
      have e : sh_T (sh_nx c kd na nb) (sh_acc c kd na nb) (x + 1) = sh_T (sh_nx c kd na nb) (sh_acc c kd na nb) x + sh_W c kd na nb x 256 := rfl
      rw [e, Nat.add_sub_cancel_left]
    · exact br_f z0 (br_f z6 (br_f z0 (br_f z6 ⟨rfl, sh_rel ⟨H, hn, hd, hg, hw, hm⟩⟩)))
theorem i_vc_fails {k : Nat} {u : SX} {v : SY} (I : i_Rel k u v) (hk : k + 4 ≤ 2048) : wpX_fails (fun r => wpY_fails (fun r' => r' = r ∧ i_Rel (k + 4) u v) v) u := by
  obtain ⟨c, n, d, fl, fr, kn, kd, na, nb, sg, fo, wy, mk, rfl, rfl, R⟩ := I
  obtain ⟨H, hn, hd, hg, hw, hm⟩ := R
  have h46 : 4 ^ n ≤ 4096 := sh_le6 hn
  unfold wpX_fails
  dsimp only
  refine sh_ssX H hn hg (sh_accX H (sh_st_lt H _ _) ⟨sh_nb _, ?_⟩)
  unfold wpY_fails
  dsimp only
  exact sh_flY H (by omega) hn ⟨sh_nb _, rfl, sh_rel ⟨H, hn, hd, hg, hw, hm⟩⟩
theorem i_vc_rank {k : Nat} {u : SX} {v : SY} (I : i_Rel k u v) (hk : k + 4 ≤ 2048) : wpX_rank (fun r u' => wpY_rank (fun r' v' => r' = r ∧ i_Rel (k + 4) u' v') v) u := by
  obtain ⟨c, n, d, fl, fr, kn, kd, na, nb, sg, fo, wy, mk, rfl, rfl, R⟩ := I
  obtain ⟨H, hn, hd, hg, hw, hm⟩ := R
  refine sh_rankX H hw hn hd hg (fun fr' wy' hf hw' => ?_)
  unfold wpY_rank
  dsimp only
  have h5 := sh_sa_7 hn hd
  refine sh_saY (by omega) (nm_r (nI_add _ _) (sh_beY (a := 0) H hm (Nat.zero_le _) (by omega) (fun kn' mk' hk' hm' => ?_)))
  dsimp only
  refine ⟨?_, sh_rel ⟨H, hn, hd, hg, fun _ => hw', fun _ => hm'⟩⟩
  rw [sh_lv hm' hn (Nat.le_of_lt hd)]
  rfl
theorem i_vc_extending {k : Nat} {u : SX} {v : SY} (I : i_Rel k u v) (hk : k + 4 ≤ 2048) : wpX_extending (fun r u' => wpY_extending (fun r' v' => r' = r ∧ i_Rel (k + 4) u' v') v) u := by
  obtain ⟨c, n, d, fl, fr, kn, kd, na, nb, sg, fo, wy, mk, rfl, rfl, R⟩ := I
  obtain ⟨H, hn, hd, hg, hw, hm⟩ := R
  exact sh_extX H hw hn hg (fun fr' wy' hf hw' => sh_exY H hm hn hd (fun kn' mk' hk' hm' => ⟨rfl, sh_rel ⟨H, hn, hd, hg, fun _ => hw', fun _ => hm'⟩⟩))
theorem i_vc_leastLength {k : Nat} {u : SX} {v : SY} (I : i_Rel k u v) (hk : k + 4 ≤ 2048) : wpX_leastLength (fun r u' => wpY_leastLength (fun r' v' => r' = r ∧ i_Rel (k + 4) u' v') v) u := by
  obtain ⟨c, n, d, fl, fr, kn, kd, na, nb, sg, fo, wy, mk, rfl, rfl, R⟩ := I
  obtain ⟨H, hn, hd, hg, hw, hm⟩ := R
  unfold wpX_leastLength
  dsimp only
  refine sh_findX H hw (fun hv fr' wy' hf hw' => br_t rfl ?_) (fun M hM hv fr' wy' len fo' p hf hw' hl hp hF hc hs => br_f (by decide) ?_)
  · unfold wpY_leastLength
    dsimp only
    exact sh_fdYN H hm hv (fun kn' mk' hk' hm' => br_f (by decide) ⟨rfl, sh_rel ⟨H, hn, hd, hg, fun _ => hw', fun _ => hm'⟩⟩)
  · unfold wpY_leastLength
    dsimp only
    have h5 := sh_sa_7 hl hp
    exact sh_fdYA H hm hl hp hF (by rw [hv, hc]) (fun kn' mk' hk' hm' => br_t (nI_pos' (by omega)) (sh_lnY hl hp ⟨rfl, sh_rel ⟨H, hn, hd, hg, fun _ => hw', fun _ => hm'⟩⟩))
theorem i_vc_least {k : Nat} {u : SX} {v : SY} (I : i_Rel k u v) (hk : k + 4 ≤ 2048) (v1 : Int32) : wpX_least (fun r u' => wpY_least (fun r' v' => r' = r ∧ i_Rel (k + 4) u' v') v v1) u v1 := by
  obtain ⟨c, n, d, fl, fr, kn, kd, na, nb, sg, fo, wy, mk, rfl, rfl, R⟩ := I
  obtain ⟨H, hn, hd, hg, hw, hm⟩ := R
  unfold wpX_least
  dsimp only
  refine sh_findX H hw (fun hv fr' wy' hf hw' => br_t rfl ?_) (fun M hM hv fr' wy' len fo' p hf hw' hl hp hF hc hs => br_f (by decide) ?_)
  · unfold wpY_least
    dsimp only
    exact sh_fdYN H hm hv (fun kn' mk' hk' hm' => br_f (by decide) ⟨rfl, sh_rel ⟨H, hn, hd, hg, fun _ => hw', fun _ => hm'⟩⟩)
  · have h5 := sh_sa_7 hl hp
    have h46 : 4 ^ len ≤ 4096 := sh_le6 hl
    have hv2 : (0 : Int32) = nI (sh_TT c kd na nb len + sh_ct (sh_FL c kd na nb len) p) := by rw [hv, hc]
    have ed : nI (sh_sa len + p) - nI (sh_sa len) = nI p := by
      rw [pk_sub (by omega), Nat.add_sub_cancel_left]
    by_cases z0 : v1 < 0
    · refine br_t z0 ?_
      unfold wpY_least
      dsimp only
      exact sh_fdYA H hm hl hp hF hv2 (fun kn' mk' hk' hm' => br_t (nI_pos' (by omega)) (sh_lnY hl hp (br_t z0 ⟨rfl, sh_rel ⟨H, hn, hd, hg, fun _ => hw', fun _ => hm'⟩⟩)))
    · by_cases zl : v1 < nI len
      · have zl2 := zl
        obtain ⟨j, hj, rfl⟩ := nI_of z0
        rw [nI_ltI hj (by omega)] at zl2
        have e1 : (nI j).toNatClampNeg = j := nI_clamp (by omega)
        refine br_f z0 (br_t zl ⟨vp_in_nI (by omega) (by decide), ?_⟩)
        dsimp only
        rw [e1, hs j zl2]
        unfold wpY_least
        dsimp only
        refine sh_fdYA H hm hl hp hF hv2 (fun kn' mk' hk' hm' => br_t (nI_pos' (by omega)) (sh_lnY hl hp (br_f z0 (br_t zl (sh_saY (by omega) ?_)))))
        rw [ed]
        exact sh_atY (by omega) zl2 hl ⟨rfl, sh_rel ⟨H, hn, hd, hg, fun _ => hw', fun _ => hm'⟩⟩
      · refine br_f z0 (br_f zl ?_)
        unfold wpY_least
        dsimp only
        exact sh_fdYA H hm hl hp hF hv2 (fun kn' mk' hk' hm' => br_t (nI_pos' (by omega)) (sh_lnY hl hp (br_f z0 (br_f zl ⟨rfl, sh_rel ⟨H, hn, hd, hg, fun _ => hw', fun _ => hm'⟩⟩))))
theorem i_vc_element {k : Nat} {u : SX} {v : SY} (I : i_Rel k u v) (hk : k + 4 ≤ 2048) (v1 : Int32) : wpX_element (fun r => wpY_element (fun r' => r' = r ∧ i_Rel (k + 4) u v) v v1) u v1 := by
  obtain ⟨c, n, d, fl, fr, kn, kd, na, nb, sg, fo, wy, mk, rfl, rfl, R⟩ := I
  obtain ⟨H, hn, hd, hg, hw, hm⟩ := R
  have h46 : 4 ^ n ≤ 4096 := sh_le6 hn
  unfold wpX_element wpY_element
  dsimp only
  by_cases z0 : v1 < 0
  · exact br_t z0 (br_t z0 ⟨rfl, sh_rel ⟨H, hn, hd, hg, hw, hm⟩⟩)
  · by_cases zl : v1 < nI n
    · have zl2 := zl
      obtain ⟨j, hj, rfl⟩ := nI_of z0
      rw [nI_ltI hj (by omega)] at zl2
      have e1 : (nI j).toNatClampNeg = j := nI_clamp (by omega)
      refine br_f z0 (br_t zl ⟨vp_in_nI (by omega) (by decide), br_f z0 (br_t zl ?_)⟩)
      rw [e1, hg j zl2]
      exact sh_atY (by omega) zl2 hn ⟨rfl, sh_rel ⟨H, hn, hd, hg, hw, hm⟩⟩
    · exact br_f z0 (br_f zl (br_f z0 (br_f zl ⟨rfl, sh_rel ⟨H, hn, hd, hg, hw, hm⟩⟩)))
end
