section
/-! rows of the kit (kit/rows), pasted -/
def bt (x : Int32) (i : Nat) : Bool := x.toBitVec.getLsbD i
theorem b_ext {x y : Int32} (h : ∀ i, i < 32 → bt x i = bt y i) : x = y := Int32.toBitVec_inj.mp (BitVec.eq_of_getLsbD_eq (fun i hi => h i hi))
theorem b_or (x y : Int32) (i : Nat) : bt (x ||| y) i = (bt x i || bt y i) := by unfold bt; rw [Int32.toBitVec_or, BitVec.getLsbD_or]
theorem b_and (x y : Int32) (i : Nat) : bt (x &&& y) i = (bt x i && bt y i) := by unfold bt; rw [Int32.toBitVec_and, BitVec.getLsbD_and]
theorem b_xor (x y : Int32) (i : Nat) : bt (x ^^^ y) i = (bt x i ^^ bt y i) := by unfold bt; rw [Int32.toBitVec_xor, BitVec.getLsbD_xor]
theorem b_big {x : Int32} {i : Nat} (h : 32 ≤ i) : bt x i = false := BitVec.getLsbD_of_ge _ _ h
theorem b_255 (i : Nat) : bt 255 i = decide (i < 8) := by
  rcases Nat.lt_or_ge i 32 with h | h
  · exact (by decide +kernel : ∀ i, i < 32 → bt 255 i = decide (i < 8)) i h
  · rw [b_big h, decide_eq_false (by omega)]
theorem b_m1 : ∀ i, i < 32 → bt (-1) i = true := by decide +kernel
theorem b_0 (i : Nat) : bt 0 i = false := BitVec.getLsbD_zero
theorem s_l : ∀ n, n < 32 → ((nI n &&& 31).toBitVec.smod 32).toNat = n := by decide +kernel
theorem s_u : ∀ n, n < 32 → (((nI n).toUInt32 &&& Int32.toUInt32 31).toBitVec % 32).toNat = n := by decide +kernel
theorem b_shl (n : Nat) (hn : n < 32) (x : Int32) {i : Nat} (hi : i < 32) : bt (x <<< (nI n &&& 31)) i = (decide (n ≤ i) && bt x (i - n)) := by
  unfold bt
  rw [Int32.toBitVec_shiftLeft]
  show (x.toBitVec <<< ((nI n &&& 31).toBitVec.smod 32).toNat).getLsbD i = _
  rw [s_l n hn, BitVec.getLsbD_shiftLeft]
  rcases Nat.lt_or_ge i n with h | h
  · simp [h, Nat.not_le.mpr h]
  · simp [hi, h, Nat.not_lt.mpr h]
theorem b_ushr (n : Nat) (hn : n < 32) (x : Int32) (i : Nat) : bt ((x.toUInt32 >>> ((nI n).toUInt32 &&& Int32.toUInt32 31)).toInt32) i = bt x (n + i) := by
  show (x.toUInt32 >>> ((nI n).toUInt32 &&& Int32.toUInt32 31)).toBitVec.getLsbD i = x.toUInt32.toBitVec.getLsbD (n + i)
  rw [UInt32.toBitVec_shiftRight]
  show (x.toUInt32.toBitVec >>> (((nI n).toUInt32 &&& Int32.toUInt32 31).toBitVec % 32).toNat).getLsbD i = _
  rw [s_u n hn, BitVec.getLsbD_ushiftRight]
theorem pk_us {f : Nat → Int32} {k : Nat} {x : Int32} : upd f k x k = x := if_pos rfl
theorem pk_un {f : Nat → Int32} {k j : Nat} {x : Int32} (h : j ≠ k) : upd f k x j = f j := if_neg h
theorem pk_sub {a b : Nat} (h : b ≤ a) : nI a - nI b = nI (a - b) := by
  obtain ⟨c, rfl⟩ : ∃ c, a = c + b := ⟨a - b, by omega⟩
  rw [← nI_add, Int32.add_sub_cancel, Nat.add_sub_cancel]
theorem pk_m1 (n : Nat) : nI (n + 1) + (-1) = nI n := by
  rw [← nI_1, Int32.add_assoc, show (1 : Int32) + (-1) = 0 from rfl, Int32.add_zero]
theorem pk_mul (a b : Nat) : nI a * nI b = nI (a * b) := (Int32.ofNat_mul a b).symm
theorem pk_div {a d : Nat} (ha : a < 2 ^ 31) (h0 : 0 < d) (hd : d < 2 ^ 31) : nI a / nI d = nI (a / d) := by
  apply Int32.toInt_inj.mp
  rw [lg_idiv_nonneg (by rw [nI_toInt ha]; omega) (by rw [nI_toInt hd]; omega), nI_toInt ha, nI_toInt hd, nI_toInt (Nat.lt_of_le_of_lt (Nat.div_le_self a d) ha)]
  first | rfl | exact (Int.natCast_ediv _ _).symm
theorem pk_rem {a d : Nat} (ha : a < 2 ^ 31) (h0 : 0 < d) (hd : d < 2 ^ 31) : nI a - nI a / nI d * nI d = nI (a % d) := by
  rw [pk_div ha h0 hd, pk_mul, pk_sub (Nat.div_mul_le_self a d)]
  exact congrArg nI (by have := Nat.div_add_mod' a d; omega)
theorem pk_le {x y : Int32} {A B : Prop} (a b : Nat) (f : a ≤ b → A) (g : b < a → B) (hx : x = nI a := by rfl) (hy : y = nI b := by rfl) (ha : a < 2 ^ 31 := by omega) (hb : b < 2 ^ 31 := by omega) : (x ≤ y → A) ∧ (¬ x ≤ y → B) := by
  subst hx hy
  rw [nI_leI ha hb]
  exact ⟨f, fun z => g (by omega)⟩
theorem pk_lt {x y : Int32} {A B : Prop} (a b : Nat) (f : a < b → A) (g : b ≤ a → B) (hx : x = nI a := by rfl) (hy : y = nI b := by rfl) (ha : a < 2 ^ 31 := by omega) (hb : b < 2 ^ 31 := by omega) : (x < y → A) ∧ (¬ x < y → B) := by
  subst hx hy
  rw [nI_ltI ha hb]
  exact ⟨f, fun z => g (by omega)⟩
theorem pk_eq {x y : Int32} {A B : Prop} (a b : Nat) (f : a = b → A) (g : a ≠ b → B) (hx : x = nI a := by rfl) (hy : y = nI b := by rfl) (ha : a < 2 ^ 31 := by omega) (hb : b < 2 ^ 31 := by omega) : (x = y → A) ∧ (¬ x = y → B) := by
  subst hx hy
  rw [nI_eq ha hb]
  exact ⟨f, g⟩
theorem pk_in {x : Int32} (n N : Nat) (h : n < N) (hx : x = nI n := by rfl) (hN : N < 2 ^ 31 := by omega) : vp_in x N := by
  subst hx
  exact vp_in_nI h hN
theorem pk_cl {x : Int32} (n : Nat) (hx : x = nI n := by rfl) (h : n < 2 ^ 31 := by omega) : x.toNatClampNeg = n := by
  subst hx
  exact nI_clamp h
theorem pk_tn {n : Nat} (h : n < 2 ^ 32) : (nI n).toBitVec.toNat = n := Nat.mod_eq_of_lt h
theorem pk_and (x : Int32) {m : Int32} (k : Nat) (hm : m.toBitVec.toNat = 2 ^ k - 1) : x &&& m = nI (x.toBitVec.toNat % 2 ^ k) := by
  apply Int32.toBitVec_inj.mp
  apply BitVec.eq_of_toNat_eq
  rw [Int32.toBitVec_and, BitVec.toNat_and, hm, Nat.and_two_pow_sub_one_eq_mod]
  show _ = (BitVec.ofNat 32 _).toNat
  rw [BitVec.toNat_ofNat]
  exact (Nat.mod_eq_of_lt (Nat.lt_of_le_of_lt (Nat.mod_le _ _) x.toBitVec.isLt)).symm
theorem pk_andN {n : Nat} (h : n < 2 ^ 32) {m : Int32} (k : Nat) (hm : m.toBitVec.toNat = 2 ^ k - 1) : nI n &&& m = nI (n % 2 ^ k) := by
  rw [pk_and _ k hm, pk_tn h]
theorem pk_shr (a s : Int32) (k : Nat) (hs : (s.toBitVec.smod 32).toNat = k) : (a >>> s).toInt = a.toInt >>> k := by
  show (a.toBitVec.sshiftRight (s.toBitVec.smod 32).toNat).toInt = _
  rw [hs, BitVec.toInt_sshiftRight]
  rfl
theorem pk_shrN {n : Nat} (h : n < 2 ^ 31) (s : Int32) (k : Nat) (hs : (s.toBitVec.smod 32).toNat = k) : nI n >>> s = nI (n / 2 ^ k) := by
  apply Int32.toInt_inj.mp
  have h2 : n / 2 ^ k ≤ n := Nat.div_le_self _ _
  rw [pk_shr _ _ k hs, nI_toInt h, nI_toInt (by omega), Int.shiftRight_eq_div_pow]
  rfl
end
section
/-! sums and counts over naturals -/
def tj_sm (h : Nat → Nat) : Nat → Nat
  | 0 => 0
  | n + 1 => tj_sm h n + h n
theorem tj_sm_congr {a b : Nat → Nat} {n : Nat} (h : ∀ i, i < n → a i = b i) : tj_sm a n = tj_sm b n := by
  induction n with
  | zero => rfl
  | succ n ih => show tj_sm a n + a n = tj_sm b n + b n; rw [ih (fun i hi => h i (by omega)), h n (by omega)]
theorem tj_sm_add (a b : Nat → Nat) (n : Nat) : tj_sm (fun i => a i + b i) n = tj_sm a n + tj_sm b n := by
  induction n with
  | zero => rfl
  | succ n ih => show tj_sm (fun i => a i + b i) n + (a n + b n) = (tj_sm a n + a n) + (tj_sm b n + b n); rw [ih]; omega
theorem tj_sm_0 (n : Nat) : tj_sm (fun _ => 0) n = 0 := by
  induction n with
  | zero => rfl
  | succ n ih => show tj_sm (fun _ => 0) n + 0 = 0; rw [ih]
theorem tj_sm_swap (F : Nat → Nat → Nat) (a b : Nat) : tj_sm (fun n => tj_sm (fun o => F n o) b) a = tj_sm (fun o => tj_sm (fun n => F n o) a) b := by
  induction a with
  | zero => exact (tj_sm_0 b).symm
  | succ a ih =>
    show tj_sm (fun n => tj_sm (fun o => F n o) b) a + tj_sm (fun o => F a o) b = tj_sm (fun o => tj_sm (fun n => F n o) a + F a o) b
    rw [ih, tj_sm_add]
def tj_cn (p : Nat → Bool) (n : Nat) : Nat := tj_sm (fun i => (p i).toNat) n
theorem tj_cn_0 (p : Nat → Bool) : tj_cn p 0 = 0 := rfl
theorem tj_cn_s (p : Nat → Bool) (n : Nat) : tj_cn p (n + 1) = tj_cn p n + (p n).toNat := rfl
theorem tj_cn_t {p : Nat → Bool} {n : Nat} (h : p n = true) : tj_cn p (n + 1) = tj_cn p n + 1 := by rw [tj_cn_s, h]; rfl
theorem tj_cn_f {p : Nat → Bool} {n : Nat} (h : p n = false) : tj_cn p (n + 1) = tj_cn p n := by rw [tj_cn_s, h]; rfl
theorem tj_bf {x : Bool} (h : ¬ x = true) : x = false := by cases x <;> first | rfl | exact absurd rfl h
theorem tj_cn_le (p : Nat → Bool) (n : Nat) : tj_cn p n ≤ n := by
  induction n with
  | zero => exact Nat.le_refl 0
  | succ n ih => rw [tj_cn_s]; have := Bool.toNat_le (p n); omega
theorem tj_cn_mono (p : Nat → Bool) {m n : Nat} (h : m ≤ n) : tj_cn p m ≤ tj_cn p n := by
  induction n with
  | zero =>
    have e : m = 0 := by omega
    rw [e]; exact Nat.le_refl _
  | succ n ih =>
    rcases Nat.lt_or_ge n m with z | z
    · have e : m = n + 1 := by omega
      rw [e]; exact Nat.le_refl _
    · rw [tj_cn_s]; have := ih z; omega
theorem tj_cn_congr {p q : Nat → Bool} {n : Nat} (h : ∀ i, i < n → p i = q i) : tj_cn p n = tj_cn q n :=
  tj_sm_congr (fun i hi => by rw [h i hi])
theorem tj_cn_pos {p : Nat → Bool} {n : Nat} : 0 < tj_cn p n ↔ ∃ i, i < n ∧ p i = true := by
  induction n with
  | zero =>
    constructor
    · intro h; rw [tj_cn_0] at h; omega
    · rintro ⟨i, hi, _⟩; omega
  | succ n ih =>
    constructor
    · intro h
      by_cases z : p n = true
      · exact ⟨n, by omega, z⟩
      · rw [tj_cn_f (tj_bf z)] at h
        obtain ⟨i, hi, e⟩ := ih.mp h
        exact ⟨i, by omega, e⟩
    · rintro ⟨i, hi, e⟩
      rcases Nat.lt_or_ge i n with z | z
      · have := ih.mpr ⟨i, z, e⟩
        rw [tj_cn_s]; omega
      · have e2 : i = n := by omega
        rw [tj_cn_t (e2 ▸ e)]; omega
theorem tj_cn_none {p : Nat → Bool} {a b : Nat} (hab : a ≤ b) (h : ∀ i, a ≤ i → i < b → p i = false) : tj_cn p b = tj_cn p a := by
  induction b with
  | zero =>
    have e : a = 0 := by omega
    rw [e]
  | succ b ih =>
    rcases Nat.lt_or_ge b a with z | z
    · have e : a = b + 1 := by omega
      rw [e]
    · rw [tj_cn_f (h b z (by omega))]
      exact ih z (fun i h1 h2 => h i h1 (by omega))
theorem tj_cn_upd {p q : Nat → Bool} {k n : Nat} (hk : k < n) (h : ∀ i, i < n → i ≠ k → q i = p i) : tj_cn q n + (p k).toNat = tj_cn p n + (q k).toNat := by
  induction n with
  | zero => omega
  | succ n ih =>
    rw [tj_cn_s, tj_cn_s]
    rcases Nat.lt_or_ge k n with z | z
    · have := ih z (fun i hi hn => h i (by omega) hn)
      rw [h n (by omega) (by omega)]
      omega
    · have e : k = n := by omega
      subst e
      rw [tj_cn_congr (p := q) (q := p) (fun i hi => h i (by omega) (by omega))]
      omega
/-! facts and their counts: 8 is 'any' -/
def tj_f (g : Nat → Int32) (i : Nat) : Bool := !decide (g i = 0)
def tj_ag (i n : Nat) : Bool := decide (8 ≤ i) || decide (i = n)
def tj_hit (g : Nat → Int32) (i j l n : Nat) : Bool := tj_f g n && tj_ag i (n / 64) && tj_ag j (n / 8 % 8) && tj_ag l (n % 8)
def tj_C (g : Nat → Int32) (i j l : Nat) : Nat := tj_cn (tj_hit g i j l) 512
theorem tj_C_le (g : Nat → Int32) (i j l : Nat) : tj_C g i j l ≤ 512 := tj_cn_le _ _
theorem tj_ag8 (n : Nat) : tj_ag 8 n = true := rfl
theorem tj_ag_lt {i n : Nat} (h : i < 8) : tj_ag i n = decide (i = n) := by
  unfold tj_ag
  rw [decide_eq_false (by omega : ¬ 8 ≤ i), Bool.false_or]
theorem tj_s8 : ∀ m, m < 8 → ∀ A : Bool, tj_sm (fun o => (A && tj_ag o m).toNat) 8 = A.toNat := by decide
theorem tj_C_l (g : Nat → Int32) (i j : Nat) : tj_C g i j 8 = tj_sm (fun o => tj_C g i j o) 8 := by
  unfold tj_C tj_cn
  rw [← tj_sm_swap]
  refine tj_sm_congr (fun n hn => ?_)
  show (tj_f g n && tj_ag i (n / 64) && tj_ag j (n / 8 % 8) && tj_ag 8 (n % 8)).toNat = tj_sm (fun o => (tj_f g n && tj_ag i (n / 64) && tj_ag j (n / 8 % 8) && tj_ag o (n % 8)).toNat) 8
  rw [tj_s8 (n % 8) (by omega), tj_ag8, Bool.and_true]
theorem tj_C_j (g : Nat → Int32) (i l : Nat) : tj_C g i 8 l = tj_sm (fun o => tj_C g i o l) 8 := by
  unfold tj_C tj_cn
  rw [← tj_sm_swap]
  refine tj_sm_congr (fun n hn => ?_)
  have e : ∀ a b c d : Bool, (a && b && c && d) = (a && b && d && c) := by decide
  show (tj_f g n && tj_ag i (n / 64) && tj_ag 8 (n / 8 % 8) && tj_ag l (n % 8)).toNat = tj_sm (fun o => (tj_f g n && tj_ag i (n / 64) && tj_ag o (n / 8 % 8) && tj_ag l (n % 8)).toNat) 8
  rw [tj_sm_congr (fun o _ => congrArg Bool.toNat (e _ _ _ _)), tj_s8 (n / 8 % 8) (by omega), tj_ag8, Bool.and_true]
theorem tj_C_i (g : Nat → Int32) (j l : Nat) : tj_C g 8 j l = tj_sm (fun o => tj_C g o j l) 8 := by
  unfold tj_C tj_cn
  rw [← tj_sm_swap]
  refine tj_sm_congr (fun n hn => ?_)
  have e : ∀ a b c d : Bool, (a && b && c && d) = (a && c && d && b) := by decide
  show (tj_f g n && tj_ag 8 (n / 64) && tj_ag j (n / 8 % 8) && tj_ag l (n % 8)).toNat = tj_sm (fun o => (tj_f g n && tj_ag o (n / 64) && tj_ag j (n / 8 % 8) && tj_ag l (n % 8)).toNat) 8
  rw [tj_sm_congr (fun o _ => congrArg Bool.toNat (e _ _ _ _)), tj_s8 (n / 64) (by omega), tj_ag8, Bool.and_true]
theorem tj_hit_k (g : Nat → Int32) (i j l : Nat) {s p o : Nat} (hs : s < 8) (hp : p < 8) (ho : o < 8) : tj_hit g i j l (64 * s + 8 * p + o) = (tj_f g (64 * s + 8 * p + o) && (tj_ag i s && tj_ag j p && tj_ag l o)) := by
  unfold tj_hit
  rw [show (64 * s + 8 * p + o) / 64 = s by omega, show (64 * s + 8 * p + o) / 8 % 8 = p by omega, show (64 * s + 8 * p + o) % 8 = o by omega]
  cases tj_f g (64 * s + 8 * p + o) <;> cases tj_ag i s <;> cases tj_ag j p <;> cases tj_ag l o <;> rfl
theorem tj_C_x (g : Nat → Int32) {s p o : Nat} (hs : s < 8) (hp : p < 8) (ho : o < 8) : tj_C g s p o = (tj_f g (64 * s + 8 * p + o)).toNat := by
  have h := tj_cn_upd (p := fun _ => false) (q := tj_hit g s p o) (k := 64 * s + 8 * p + o) (n := 512) (by omega) (fun i hi hn => by
    unfold tj_hit
    rw [tj_ag_lt hs, tj_ag_lt hp, tj_ag_lt ho]
    by_cases h1 : s = i / 64
    · by_cases h2 : p = i / 8 % 8
      · have h3 : ¬ o = i % 8 := by omega
        rw [decide_eq_false h3, Bool.and_false]
      · rw [decide_eq_false h2, Bool.and_false, Bool.false_and]
    · rw [decide_eq_false h1, Bool.and_false, Bool.false_and, Bool.false_and])
  have h0 : tj_cn (fun _ => false) 512 = 0 := tj_cn_none (a := 0) (by omega) (fun _ _ _ => rfl)
  rw [tj_hit_k g s p o hs hp ho, tj_ag_lt hs, tj_ag_lt hp, tj_ag_lt ho, decide_eq_true rfl, decide_eq_true rfl, decide_eq_true rfl, h0] at h
  show tj_cn (tj_hit g s p o) 512 = _
  revert h
  cases tj_f g (64 * s + 8 * p + o)
  · exact fun h => by simpa using h
  · exact fun h => by simpa using h
theorem tj_on_o (g : Nat → Int32) {s p : Nat} (hs : s < 8) (hp : p < 8) : tj_cn (fun o => tj_f g (64 * s + 8 * p + o)) 8 = tj_C g s p 8 := by
  rw [tj_C_l]
  exact tj_sm_congr (fun o ho => (tj_C_x g hs hp ho).symm)
theorem tj_on_p (g : Nat → Int32) {s o : Nat} (hs : s < 8) (ho : o < 8) : tj_cn (fun p => tj_f g (64 * s + 8 * p + o)) 8 = tj_C g s 8 o := by
  rw [tj_C_j]
  exact tj_sm_congr (fun p hp => (tj_C_x g hs hp ho).symm)
theorem tj_on_s (g : Nat → Int32) {p o : Nat} (hp : p < 8) (ho : o < 8) : tj_cn (fun s => tj_f g (64 * s + 8 * p + o)) 8 = tj_C g 8 p o := by
  rw [tj_C_i]
  exact tj_sm_congr (fun s hs => (tj_C_x g hs hp ho).symm)
theorem tj_C_all (g : Nat → Int32) : tj_C g 8 8 8 = tj_cn (tj_f g) 512 := by
  refine tj_cn_congr (fun i _ => ?_)
  unfold tj_hit
  rw [tj_ag8, tj_ag8, tj_ag8, Bool.and_true, Bool.and_true, Bool.and_true]
theorem tj_f_u (g : Nat → Int32) (k n : Nat) (y : Int32) : tj_f (upd g k y) n = if n = k then !decide (y = 0) else tj_f g n := by
  unfold tj_f upd
  by_cases h : n = k
  · rw [if_pos h, if_pos h]
  · rw [if_neg h, if_neg h]
theorem tj_C_u (g : Nat → Int32) {s p o : Nat} (hs : s < 8) (hp : p < 8) (ho : o < 8) (y : Int32) (i j l : Nat) :
    tj_C (upd g (64 * s + 8 * p + o) y) i j l + (tj_f g (64 * s + 8 * p + o) && (tj_ag i s && tj_ag j p && tj_ag l o)).toNat = tj_C g i j l + (!decide (y = 0) && (tj_ag i s && tj_ag j p && tj_ag l o)).toNat := by
  have h := tj_cn_upd (p := tj_hit g i j l) (q := tj_hit (upd g (64 * s + 8 * p + o) y) i j l) (k := 64 * s + 8 * p + o) (n := 512) (by omega) (fun n hn hk => by
    unfold tj_hit
    rw [tj_f_u, if_neg hk])
  rw [tj_hit_k _ i j l hs hp ho, tj_hit_k _ i j l hs hp ho, tj_f_u, if_pos rfl] at h
  exact h
/-- g' is g with the fact s p o turned over, the counts going by y -/
def tj_Fl (g g' : Nat → Int32) (s p o : Nat) (y : Int32) : Prop :=
  (∀ n, n < 512 → tj_f g' n = (tj_f g n ^^ decide (n = 64 * s + 8 * p + o))) ∧
  (∀ i j l, nI (tj_C g' i j l) = if (tj_ag i s && tj_ag j p && tj_ag l o) = true then nI (tj_C g i j l) + y else nI (tj_C g i j l))
theorem tj_Fl_add {g : Nat → Int32} {s p o : Nat} (hs : s < 8) (hp : p < 8) (ho : o < 8) (hz : g (64 * s + 8 * p + o) = 0) : tj_Fl g (upd g (64 * s + 8 * p + o) 1) s p o 1 := by
  have hf : tj_f g (64 * s + 8 * p + o) = false := by unfold tj_f; rw [hz]; rfl
  have hd : (!decide ((1 : Int32) = 0)) = true := by decide
  refine ⟨fun n hn => ?_, fun i j l => ?_⟩
  · rw [tj_f_u]
    by_cases h : n = 64 * s + 8 * p + o
    · rw [if_pos h, h, hf, hd, decide_eq_true (rfl : 64 * s + 8 * p + o = 64 * s + 8 * p + o)]; rfl
    · rw [if_neg h, decide_eq_false h, Bool.xor_false]
  · have h := tj_C_u g hs hp ho 1 i j l
    rw [hf, hd, Bool.false_and, Bool.true_and] at h
    by_cases z : (tj_ag i s && tj_ag j p && tj_ag l o) = true
    · rw [if_pos z, nI_1]
      rw [z] at h
      exact congrArg nI (by simpa using h)
    · rw [if_neg z]
      rw [tj_bf z] at h
      exact congrArg nI (by simpa using h)
theorem tj_Fl_rem {g : Nat → Int32} {s p o : Nat} (hs : s < 8) (hp : p < 8) (ho : o < 8) (hz : ¬ g (64 * s + 8 * p + o) = 0) : tj_Fl g (upd g (64 * s + 8 * p + o) 0) s p o (-1) := by
  have hf : tj_f g (64 * s + 8 * p + o) = true := by unfold tj_f; rw [decide_eq_false hz]; rfl
  have hd : (!decide ((0 : Int32) = 0)) = false := by decide
  refine ⟨fun n hn => ?_, fun i j l => ?_⟩
  · rw [tj_f_u]
    by_cases h : n = 64 * s + 8 * p + o
    · rw [if_pos h, h, hf, hd, decide_eq_true (rfl : 64 * s + 8 * p + o = 64 * s + 8 * p + o)]; rfl
    · rw [if_neg h, decide_eq_false h, Bool.xor_false]
  · have h := tj_C_u g hs hp ho 0 i j l
    rw [hf, hd, Bool.false_and, Bool.true_and] at h
    by_cases z : (tj_ag i s && tj_ag j p && tj_ag l o) = true
    · rw [if_pos z]
      rw [z] at h
      have h2 : tj_C (upd g (64 * s + 8 * p + o) 0) i j l + 1 = tj_C g i j l := by simpa using h
      rw [← h2, pk_m1]
    · rw [if_neg z]
      rw [tj_bf z] at h
      exact congrArg nI (by simpa using h)
/-! sets of numbers below 8 as bits -/
def tj_BS (x : Int32) (f : Nat → Bool) : Prop := ∀ i, i < 32 → bt x i = (decide (i < 8) && f i)
theorem tj_b1 : ∀ i, i < 32 → bt 1 i = decide (i = 0) := by decide +kernel
theorem tj_b1s : ∀ o, o < 8 → ∀ i, i < 32 → bt ((1 : Int32) <<< (nI o &&& 31)) i = decide (i = o) := by decide +kernel
theorem tj_BS_congr {x : Int32} {f f' : Nat → Bool} (h : tj_BS x f) (e : ∀ i, i < 8 → f i = f' i) : tj_BS x f' := by
  intro i hi
  rw [h i hi]
  by_cases z : i < 8
  · rw [e i z]
  · rw [decide_eq_false z]; rfl
theorem tj_BS_bit {x : Int32} {f : Nat → Bool} (h : tj_BS x f) {o : Nat} (ho : o < 8) : ((x.toUInt32 >>> ((nI o).toUInt32 &&& Int32.toUInt32 31)).toInt32 &&& 1) = nI (f o).toNat := by
  apply b_ext
  intro i hi
  rw [b_and, b_ushr o (by omega) x i, tj_b1 i hi]
  rcases Nat.eq_zero_or_pos i with z | z
  · subst z
    rw [Nat.add_zero, h o (by omega), decide_eq_true ho]
    cases f o <;> decide
  · rw [decide_eq_false (by omega : ¬ i = 0), Bool.and_false]
    cases f o
    · exact (b_0 i).symm
    · exact ((tj_b1 i hi).trans (decide_eq_false (by omega))).symm
theorem tj_BS_xor {x : Int32} {f : Nat → Bool} (h : tj_BS x f) {o : Nat} (ho : o < 8) : tj_BS (x ^^^ ((1 : Int32) <<< (nI o &&& 31))) (fun i => f i ^^ decide (i = o)) := by
  intro i hi
  rw [b_xor, h i hi, tj_b1s o ho i hi]
  by_cases z : i < 8
  · simp [z]
  · have hio : ¬ i = o := by omega
    simp [z, hio]
theorem tj_BS_or {x : Int32} {f : Nat → Bool} (h : tj_BS x f) {o : Nat} (ho : o < 8) : tj_BS (x ||| ((1 : Int32) <<< (nI o &&& 31))) (fun i => f i || decide (i = o)) := by
  intro i hi
  rw [b_or, h i hi, tj_b1s o ho i hi]
  by_cases z : i < 8
  · simp [z]
  · have hio : ¬ i = o := by omega
    simp [z, hio]
theorem tj_BS_or0 {x : Int32} {f : Nat → Bool} (h : tj_BS x f) : tj_BS (x ||| 0) f := by
  intro i hi
  rw [b_or, h i hi, b_0, Bool.or_false]
theorem tj_BS_and {x y : Int32} {f g : Nat → Bool} (h : tj_BS x f) (h2 : tj_BS y g) : tj_BS (x &&& y) (fun i => f i && g i) := by
  intro i hi
  rw [b_and, h i hi, h2 i hi]
  show _ = (decide (i < 8) && (f i && g i))
  cases decide (i < 8) <;> cases f i <;> cases g i <;> rfl
theorem tj_BS_clr {x : Int32} {f : Nat → Bool} (h : tj_BS x f) {o : Nat} (ho : o < 8) : tj_BS (x &&& (((1 : Int32) <<< (nI o &&& 31)) ^^^ (-1))) (fun i => f i && !decide (i = o)) := by
  intro i hi
  rw [b_and, b_xor, h i hi, tj_b1s o ho i hi, b_m1 i hi]
  show _ = (decide (i < 8) && (f i && !decide (i = o)))
  cases decide (i < 8) <;> cases f i <;> cases decide (i = o) <;> rfl
theorem tj_BS_255 : tj_BS 255 (fun _ => true) := by
  intro i hi
  rw [b_255, Bool.and_true]
theorem tj_BS_0 : tj_BS 0 (fun _ => false) := by
  intro i hi
  rw [b_0, Bool.and_false]
theorem tj_BS_z {x : Int32} {f : Nat → Bool} (h : tj_BS x f) : x = 0 ↔ ∀ i, i < 8 → f i = false := by
  constructor
  · intro e i hi
    have := h i (by omega)
    rw [e, b_0, decide_eq_true hi, Bool.true_and] at this
    exact this.symm
  · intro e
    apply b_ext
    intro i hi
    rw [h i hi, b_0]
    by_cases z : i < 8
    · rw [e i z, Bool.and_false]
    · rw [decide_eq_false z, Bool.false_and]
end
section
/-! places as codes below 12: a number below 8, or 8 + the variable -/
def tj_pc (m : Nat) : Int32 := if m < 8 then nI m else (-1) - nI (m - 8)
theorem tj_pc_lt {m : Nat} (h : m < 8) : tj_pc m = nI m := if_pos h
theorem tj_pc_neg : ∀ m, m < 12 → (tj_pc m < 0 ↔ 8 ≤ m) := by decide +kernel
theorem tj_pc_v : ∀ m, m < 12 → ∀ v, v < 4 → (tj_pc m = (-1) - nI v ↔ m = 8 + v) := by decide +kernel
theorem tj_pc_i : ∀ m, m < 12 → 8 ≤ m → (-1) - tj_pc m = nI (m - 8) := by decide +kernel
def tj_PL (e : Nat → Nat) (pl : Nat → Int32) : Prop := ∀ i, i < 12 → e i < 12 ∧ pl i = tj_pc (e i)
/-- variable v stands in the question -/
def tj_st (e : Nat → Nat) (np v : Nat) : Bool := decide (0 < tj_cn (fun k => decide (e k = 8 + v)) (3 * np))
theorem tj_st_iff {e : Nat → Nat} {np v : Nat} : tj_st e np v = true ↔ ∃ k, k < 3 * np ∧ e k = 8 + v := by
  unfold tj_st
  rw [decide_eq_true_iff, tj_cn_pos]
  constructor
  · rintro ⟨i, hi, h⟩
    exact ⟨i, hi, of_decide_eq_true h⟩
  · rintro ⟨i, hi, h⟩
    exact ⟨i, hi, decide_eq_true h⟩
/-- the size of the block of codes that have the first v digits in common -/
def tj_z : Nat → Nat
  | 0 => 4096
  | 1 => 512
  | 2 => 64
  | 3 => 8
  | _ => 1
def tj_dg (n w : Nat) : Nat := n / tj_z (w + 1) % 8
theorem tj_dg_lt (n w : Nat) : tj_dg n w < 8 := Nat.mod_lt _ (by decide)
theorem tj_z_s {v : Nat} (hv : v < 4) : tj_z v = 8 * tj_z (v + 1) := by
  rcases (by omega : v = 0 ∨ v = 1 ∨ v = 2 ∨ v = 3) with rfl | rfl | rfl | rfl <;> rfl
theorem tj_z_pos (v : Nat) : 0 < tj_z v := by
  rcases (by omega : v = 0 ∨ v = 1 ∨ v = 2 ∨ v = 3 ∨ 4 ≤ v) with rfl | rfl | rfl | rfl | h
  · decide
  · decide
  · decide
  · decide
  · obtain ⟨k, rfl⟩ : ∃ k, v = k + 4 := ⟨v - 4, by omega⟩
    show 0 < 1
    decide
theorem tj_dg_at {v c x i : Nat} (hv : v < 4) (hc : c % tj_z v = 0) (hx : x < 8) (h1 : c + x * tj_z (v + 1) ≤ i) (h2 : i < c + x * tj_z (v + 1) + tj_z (v + 1)) : tj_dg i v = x := by
  unfold tj_dg
  rcases (by omega : v = 0 ∨ v = 1 ∨ v = 2 ∨ v = 3) with rfl | rfl | rfl | rfl <;> simp only [tj_z, Nat.reduceAdd] at * <;> omega
theorem tj_dg_below {v w c x i : Nat} (hv : v < 4) (hw : w < v) (hc : c % tj_z v = 0) (hx : x < 8) (h1 : c + x * tj_z (v + 1) ≤ i) (h2 : i < c + x * tj_z (v + 1) + tj_z (v + 1)) : tj_dg i w = tj_dg c w := by
  unfold tj_dg
  rcases (by omega : (v = 1 ∧ w = 0) ∨ (v = 2 ∧ w = 0) ∨ (v = 2 ∧ w = 1) ∨ (v = 3 ∧ w = 0) ∨ (v = 3 ∧ w = 1) ∨ (v = 3 ∧ w = 2)) with ⟨rfl, rfl⟩ | ⟨rfl, rfl⟩ | ⟨rfl, rfl⟩ | ⟨rfl, rfl⟩ | ⟨rfl, rfl⟩ | ⟨rfl, rfl⟩ <;> simp only [tj_z, Nat.reduceAdd] at * <;> omega
theorem tj_dg_above {v w c : Nat} (hw : v ≤ w) (hw4 : w < 4) (hc : c % tj_z v = 0) : tj_dg c w = 0 := by
  unfold tj_dg
  rcases (by omega : (v = 0 ∧ w = 0) ∨ (v = 0 ∧ w = 1) ∨ (v = 0 ∧ w = 2) ∨ (v = 0 ∧ w = 3) ∨ (v = 1 ∧ w = 1) ∨ (v = 1 ∧ w = 2) ∨ (v = 1 ∧ w = 3) ∨ (v = 2 ∧ w = 2) ∨ (v = 2 ∧ w = 3) ∨ (v = 3 ∧ w = 3)) with ⟨rfl, rfl⟩ | ⟨rfl, rfl⟩ | ⟨rfl, rfl⟩ | ⟨rfl, rfl⟩ | ⟨rfl, rfl⟩ | ⟨rfl, rfl⟩ | ⟨rfl, rfl⟩ | ⟨rfl, rfl⟩ | ⟨rfl, rfl⟩ | ⟨rfl, rfl⟩ <;> simp only [tj_z, Nat.reduceAdd] at * <;> omega
theorem tj_dg_rest {v c i : Nat} (hv : v < 4) (hc : c % tj_z v = 0) (h1 : c + tj_z (v + 1) ≤ i) (h2 : i < c + tj_z v) : ¬ tj_dg i v = 0 := by
  unfold tj_dg
  rcases (by omega : v = 0 ∨ v = 1 ∨ v = 2 ∨ v = 3) with rfl | rfl | rfl | rfl <;> simp only [tj_z, Nat.reduceAdd] at * <;> omega
theorem tj_z_mod {v c : Nat} (hv : v < 4) (x : Nat) (hc : c % tj_z v = 0) : (c + x * tj_z (v + 1)) % tj_z (v + 1) = 0 := by
  rcases (by omega : v = 0 ∨ v = 1 ∨ v = 2 ∨ v = 3) with rfl | rfl | rfl | rfl <;> simp only [tj_z, Nat.reduceAdd] at * <;> omega
theorem tj_z_in {v c x : Nat} (hv : v < 4) (hx : x < 8) (hc : c + tj_z v ≤ 4096) : c + x * tj_z (v + 1) + tj_z (v + 1) ≤ 4096 := by
  rcases (by omega : v = 0 ∨ v = 1 ∨ v = 2 ∨ v = 3) with rfl | rfl | rfl | rfl <;> simp only [tj_z, Nat.reduceAdd] at * <;> omega
/-! a code's value at a place, solutions -/
def tj_vl (n m : Nat) : Nat := if m < 8 then m else tj_dg n (m - 8)
theorem tj_vl_lt (n m : Nat) : tj_vl n m < 8 := by
  unfold tj_vl
  by_cases h : m < 8
  · rw [if_pos h]; exact h
  · rw [if_neg h]; exact tj_dg_lt _ _
def tj_ok (g : Nat → Int32) (e : Nat → Nat) (n k : Nat) : Bool := tj_f g (64 * tj_vl n (e (3 * k)) + 8 * tj_vl n (e (3 * k + 1)) + tj_vl n (e (3 * k + 2)))
def tj_SP (g : Nat → Int32) (e : Nat → Nat) (np n : Nat) : Prop := (∀ w, w < 4 → tj_dg n w = 0 ∨ tj_st e np w = true) ∧ ∀ k, k < np → tj_ok g e n k = true
noncomputable def tj_S (g : Nat → Int32) (e : Nat → Nat) (np n : Nat) : Bool := @decide (tj_SP g e np n) (Classical.propDecidable _)
theorem tj_S_t {g : Nat → Int32} {e : Nat → Nat} {np n : Nat} : tj_S g e np n = true ↔ tj_SP g e np n := by
  unfold tj_S
  exact @decide_eq_true_iff _ (Classical.propDecidable _)
theorem tj_S_f {g : Nat → Int32} {e : Nat → Nat} {np n : Nat} (h : ¬ tj_SP g e np n) : tj_S g e np n = false := tj_bf (fun z => h (tj_S_t.mp z))
/-! the numbers allowed to variable v under the first digits c -/
def tj_kq (v c x m : Nat) : Nat := if m = 8 + v then x else if m < 8 then m else if m - 8 < v then tj_dg c (m - 8) else 8
def tj_oc (e : Nat → Nat) (v k : Nat) : Prop := e (3 * k) = 8 + v ∨ e (3 * k + 1) = 8 + v ∨ e (3 * k + 2) = 8 + v
def tj_AP (g : Nat → Int32) (e : Nat → Nat) (np v c x : Nat) : Prop := ∀ k, k < np → tj_oc e v k → 0 < tj_C g (tj_kq v c x (e (3 * k))) (tj_kq v c x (e (3 * k + 1))) (tj_kq v c x (e (3 * k + 2)))
noncomputable def tj_A (g : Nat → Int32) (e : Nat → Nat) (np v c x : Nat) : Bool := @decide (tj_AP g e np v c x) (Classical.propDecidable _)
theorem tj_A_t {g : Nat → Int32} {e : Nat → Nat} {np v c x : Nat} : tj_A g e np v c x = true ↔ tj_AP g e np v c x := by
  unfold tj_A
  exact @decide_eq_true_iff _ (Classical.propDecidable _)
theorem tj_ag_kq {v c x i m : Nat} (hv : v < 4) (hm : m < 12) (hc : c % tj_z v = 0) (hx : x < 8) (h1 : c + x * tj_z (v + 1) ≤ i) (h2 : i < c + x * tj_z (v + 1) + tj_z (v + 1)) : tj_ag (tj_kq v c x m) (tj_vl i m) = true := by
  unfold tj_kq tj_vl
  by_cases a : m = 8 + v
  · rw [if_pos a, if_neg (by omega), a, Nat.add_sub_cancel_left, tj_dg_at hv hc hx h1 h2, tj_ag_lt hx]
    exact decide_eq_true rfl
  · rw [if_neg a]
    by_cases b : m < 8
    · rw [if_pos b, if_pos b, tj_ag_lt b]
      exact decide_eq_true rfl
    · rw [if_neg b, if_neg b]
      by_cases d : m - 8 < v
      · rw [if_pos d, tj_dg_below hv d hc hx h1 h2, tj_ag_lt (tj_dg_lt _ _)]
        exact decide_eq_true rfl
      · rw [if_neg d]
        exact tj_ag8 _
/-- a solution's digit is allowed -/
theorem tj_A_sound {g : Nat → Int32} {e : Nat → Nat} {np v c x i : Nat} (he : ∀ i, i < 12 → e i < 12) (hnp : np ≤ 4) (hv : v < 4) (hc : c % tj_z v = 0) (hx : x < 8) (h1 : c + x * tj_z (v + 1) ≤ i) (h2 : i < c + x * tj_z (v + 1) + tj_z (v + 1)) (hS : tj_SP g e np i) : tj_A g e np v c x = true := by
  rw [tj_A_t]
  intro k hk _
  have h := hS.2 k hk
  unfold tj_ok at h
  refine tj_cn_pos.mpr ⟨64 * tj_vl i (e (3 * k)) + 8 * tj_vl i (e (3 * k + 1)) + tj_vl i (e (3 * k + 2)), ?_, ?_⟩
  · have := tj_vl_lt i (e (3 * k))
    have := tj_vl_lt i (e (3 * k + 1))
    have := tj_vl_lt i (e (3 * k + 2))
    omega
  · rw [tj_hit_k g _ _ _ (tj_vl_lt _ _) (tj_vl_lt _ _) (tj_vl_lt _ _), h, tj_ag_kq hv (he _ (by omega)) hc hx h1 h2, tj_ag_kq hv (he _ (by omega)) hc hx h1 h2, tj_ag_kq hv (he _ (by omega)) hc hx h1 h2]
    rfl
/-- the patterns whose variables are all below v hold under the first digits c -/
def tj_OK (g : Nat → Int32) (e : Nat → Nat) (np v c : Nat) : Prop := ∀ k, k < np → e (3 * k) < 8 + v → e (3 * k + 1) < 8 + v → e (3 * k + 2) < 8 + v → tj_ok g e c k = true
theorem tj_kq_vl {v c x m : Nat} (hv : v < 4) (hm : m < 8 + (v + 1)) (hc : c % tj_z v = 0) (hx : x < 8) : tj_kq v c x m = tj_vl (c + x * tj_z (v + 1)) m := by
  have hz := tj_z_pos (v + 1)
  unfold tj_kq tj_vl
  by_cases a : m = 8 + v
  · rw [if_pos a, if_neg (by omega), a, Nat.add_sub_cancel_left, tj_dg_at hv hc hx (Nat.le_refl _) (by omega)]
  · rw [if_neg a]
    by_cases b : m < 8
    · rw [if_pos b, if_pos b]
    · rw [if_neg b, if_neg b, if_pos (by omega), tj_dg_below hv (by omega) hc hx (Nat.le_refl _) (by omega)]
theorem tj_vl_vl {v c x m : Nat} (hv : v < 4) (hm : m < 8 + v) (hc : c % tj_z v = 0) (hx : x < 8) : tj_vl (c + x * tj_z (v + 1)) m = tj_vl c m := by
  have hz := tj_z_pos (v + 1)
  unfold tj_vl
  by_cases b : m < 8
  · rw [if_pos b, if_pos b]
  · rw [if_neg b, if_neg b, tj_dg_below hv (by omega) hc hx (Nat.le_refl _) (by omega)]
theorem tj_OK_s {g : Nat → Int32} {e : Nat → Nat} {np v c x : Nat} (hv : v < 4) (hc : c % tj_z v = 0) (hx : x < 8) (hO : tj_OK g e np v c) (hA : tj_A g e np v c x = true) : tj_OK g e np (v + 1) (c + x * tj_z (v + 1)) := by
  rw [tj_A_t] at hA
  intro k hk h0 h1 h2
  by_cases ho : tj_oc e v k
  · have h := hA k hk ho
    rw [tj_kq_vl hv h0 hc hx, tj_kq_vl hv h1 hc hx, tj_kq_vl hv h2 hc hx, tj_C_x g (tj_vl_lt _ _) (tj_vl_lt _ _) (tj_vl_lt _ _)] at h
    unfold tj_ok
    revert h
    cases tj_f g (64 * tj_vl (c + x * tj_z (v + 1)) (e (3 * k)) + 8 * tj_vl (c + x * tj_z (v + 1)) (e (3 * k + 1)) + tj_vl (c + x * tj_z (v + 1)) (e (3 * k + 2)))
    · intro h; exact absurd h (by decide)
    · intro _; rfl
  · unfold tj_oc at ho
    have a0 : e (3 * k) < 8 + v := by omega
    have a1 : e (3 * k + 1) < 8 + v := by omega
    have a2 : e (3 * k + 2) < 8 + v := by omega
    have h := hO k hk a0 a1 a2
    unfold tj_ok at h ⊢
    rw [tj_vl_vl hv a0 hc hx, tj_vl_vl hv a1 hc hx, tj_vl_vl hv a2 hc hx]
    exact h
theorem tj_OK_n {g : Nat → Int32} {e : Nat → Nat} {np v c : Nat} (hs : tj_st e np v = false) (hO : tj_OK g e np v c) : tj_OK g e np (v + 1) c := by
  have hn : ∀ k, k < 3 * np → ¬ e k = 8 + v := fun k hk h => by
    rw [tj_st_iff.mpr ⟨k, hk, h⟩] at hs
    exact absurd hs (by decide)
  intro k hk h0 h1 h2
  have b0 := hn (3 * k) (by omega)
  have b1 := hn (3 * k + 1) (by omega)
  have b2 := hn (3 * k + 2) (by omega)
  exact hO k hk (by omega) (by omega) (by omega)
theorem tj_OK_4 {g : Nat → Int32} {e : Nat → Nat} {np c : Nat} (he : ∀ i, i < 12 → e i < 12) (hnp : np ≤ 4) (hd : ∀ w, w < 4 → tj_dg c w = 0 ∨ tj_st e np w = true) (hO : tj_OK g e np 4 c) : tj_SP g e np c := by
  refine ⟨hd, fun k hk => hO k hk ?_ ?_ ?_⟩
  · exact he _ (by omega)
  · exact he _ (by omega)
  · exact he _ (by omega)
theorem tj_OK_0 {g : Nat → Int32} {e : Nat → Nat} {np i : Nat} (h : tj_SP g e np i) : tj_OK g e np 0 0 := by
  intro k hk h0 h1 h2
  have := h.2 k hk
  unfold tj_ok tj_vl at this ⊢
  rw [if_pos (by omega), if_pos (by omega), if_pos (by omega)] at this
  rw [if_pos (by omega), if_pos (by omega), if_pos (by omega)]
  exact this
/-! the variables that stand, in order -/
theorem tj_sd_ex {p : Nat → Bool} {k n : Nat} (h : k < tj_cn p n) : ∃ w, w < n ∧ p w = true ∧ tj_cn p w = k := by
  induction n with
  | zero => rw [tj_cn_0] at h; omega
  | succ n ih =>
    by_cases z : k < tj_cn p n
    · obtain ⟨w, a, b, c⟩ := ih z
      exact ⟨w, by omega, b, c⟩
    · by_cases y : p n = true
      · rw [tj_cn_t y] at h
        exact ⟨n, by omega, y, by omega⟩
      · rw [tj_cn_f (tj_bf y)] at h
        omega
theorem tj_sd_lt {p : Nat → Bool} {a b : Nat} (ha : p a = true) (h : a < b) : tj_cn p a < tj_cn p b := by
  have h1 := tj_cn_t ha
  have h2 := tj_cn_mono p (m := a + 1) (n := b) (by omega)
  omega
theorem tj_sd_inj {p : Nat → Bool} {a b : Nat} (ha : p a = true) (hb : p b = true) (h : tj_cn p a = tj_cn p b) : a = b := by
  rcases Nat.lt_trichotomy a b with z | z | z
  · have := tj_sd_lt ha z; omega
  · exact z
  · have := tj_sd_lt hb z; omega
def tj_VN (p : Nat → Bool) (vn : Nat → Int32) : Prop := ∀ w, w < 4 → p w = true → vn (tj_cn p w) = nI w
def tj_BD (p : Nat → Bool) (v c : Nat) (bo : Nat → Int32) : Prop := ∀ w, w < 4 → bo w = if w < v ∧ p w = true then nI (tj_dg c w) else -1
noncomputable def tj_nw (g : Nat → Int32) (e : Nat → Nat) (np w x n : Nat) : Nat := tj_cn (fun i => tj_S g e np i && decide (tj_dg i w = x)) n
def tj_VC (g : Nat → Int32) (e : Nat → Nat) (np c : Nat) (vc : Nat → Int32) : Prop := ∀ w x, w < 4 → x < 8 → tj_st e np w = true → vc (8 * w + x) = nI (tj_nw g e np w x c)
theorem tj_none_all {g : Nat → Int32} {e : Nat → Nat} {np a b : Nat} (hab : a ≤ b) (h : ∀ i, a ≤ i → i < b → ¬ tj_SP g e np i) : tj_cn (tj_S g e np) b = tj_cn (tj_S g e np) a ∧ ∀ w x, tj_nw g e np w x b = tj_nw g e np w x a := by
  refine ⟨tj_cn_none hab (fun i h1 h2 => tj_S_f (h i h1 h2)), fun w x => tj_cn_none hab (fun i h1 h2 => ?_)⟩
  rw [tj_S_f (h i h1 h2)]
  rfl
end
section
/-! the component's facts: small walks -/
def tj_q (x : Int32) : Nat := if x < 0 then 8 else if 7 < x then 8 else x.toNatClampNeg
theorem tj_q_nI' : ∀ j, j < 8 → tj_q (nI j) = j := by decide +kernel
theorem tj_q_nI {j : Nat} (h : j < 8) : tj_q (nI j) = j := tj_q_nI' j h
theorem tj_q_neg {x : Int32} (h : x < 0) : tj_q x = 8 := if_pos h
theorem tj_q_c (x : Int32) : (tj_q x = 8 ∧ (x < 0 ∨ (¬ x < 0 ∧ 7 < x))) ∨ ∃ j, j < 8 ∧ x = nI j := by
  by_cases h : x < 0
  · exact Or.inl ⟨if_pos h, Or.inl h⟩
  · by_cases h7 : 7 < x
    · exact Or.inl ⟨by unfold tj_q; rw [if_neg h, if_pos h7], Or.inr ⟨h, h7⟩⟩
    · obtain ⟨j, hj, e⟩ := nI_of2 (M := 7) (n := 7) (by decide) h (Int32.not_lt.mp h7)
      exact Or.inr ⟨j, by omega, e⟩
theorem tj_isP1 {post : Int32 → Prop} {j : Nat} (hj : j < 8) (h : post 1) : wpX_isPart post (nI j) :=
  br_f (nI_pos (by omega)) (br_f (nI_nlt (a := 7) (b := j) (by omega) (by decide)) h)
theorem tj_isP0 {post : Int32 → Prop} {x : Int32} (hq : x < 0 ∨ (¬ x < 0 ∧ 7 < x)) (h : post 0) : wpX_isPart post x := by
  rcases hq with z | ⟨z, y⟩
  · exact br_t z h
  · exact br_f z (br_t y h)
theorem tj_ones4 {post : Int32 → Prop} {x : Int32} {f : Nat → Bool} (hb : tj_BS x f) (hp : post (nI (tj_cn f 8))) : ∀ d j, j + d = 8 → wX_ones_4 post x (d + 1) (nI (tj_cn f j)) (nI j) := by
  intro d
  induction d with
  | zero =>
    intro j hj
    obtain rfl : j = 8 := by omega
    exact br_t (nI_le (a := 8) (by omega) (by omega)) hp
  | succ d ih =>
    intro j hj
    refine br_f (nI_ge (b := 8) (by omega) (by decide)) (nm_r (e' := nI (tj_cn f (j + 1))) ?_ (nm_r (nI_1 j) (ih (j + 1) (by omega))))
    rw [tj_BS_bit hb (by omega), nI_add, tj_cn_s]
theorem tj_ones {post : Int32 → Prop} {x : Int32} {f : Nat → Bool} (hb : tj_BS x f) (hp : post (nI (tj_cn f 8))) : wpX_ones post x := ⟨9, tj_ones4 hb hp 8 0 rfl⟩
def tj_IX (g : Nat → Int32) (xh : Int32) (oo pp ss gg si : Nat → Int32) : Prop :=
  xh = nI (tj_C g 8 8 8) ∧ tj_C g 8 8 8 ≤ 48 ∧
  (∀ s p, s < 8 → p < 8 → tj_BS (oo (8 * s + p)) (fun o => tj_f g (64 * s + 8 * p + o))) ∧
  (∀ s o, s < 8 → o < 8 → tj_BS (pp (8 * s + o)) (fun p => tj_f g (64 * s + 8 * p + o))) ∧
  (∀ p o, p < 8 → o < 8 → tj_BS (ss (8 * p + o)) (fun s => tj_f g (64 * s + 8 * p + o))) ∧
  (∀ s p, s < 8 → p < 8 → gg (8 * s + p) = nI (tj_C g s p 8)) ∧
  (∀ s o, s < 8 → o < 8 → gg (64 + 8 * s + o) = nI (tj_C g s 8 o)) ∧
  (∀ p s, p < 8 → s < 8 → gg (128 + 8 * p + s) = nI (tj_C g s p 8)) ∧
  (∀ p o, p < 8 → o < 8 → gg (192 + 8 * p + o) = nI (tj_C g 8 p o)) ∧
  (∀ o s, o < 8 → s < 8 → gg (256 + 8 * o + s) = nI (tj_C g s 8 o)) ∧
  (∀ o p, o < 8 → p < 8 → gg (320 + 8 * o + p) = nI (tj_C g 8 p o)) ∧
  (∀ s, s < 8 → si s = nI (tj_C g s 8 8)) ∧
  (∀ p, p < 8 → si (8 + p) = nI (tj_C g 8 p 8)) ∧
  (∀ o, o < 8 → si (16 + o) = nI (tj_C g 8 8 o))
theorem tj_i8 (s p : Nat) : 8 * nI s + nI p = nI (8 * s + p) := by
  rw [show (8 : Int32) = nI 8 from rfl, pk_mul, nI_add]
theorem tj_ik (k : Nat) {kk : Int32} (hk : kk = nI k) (s p : Nat) : kk + 8 * nI s + nI p = nI (k + 8 * s + p) := by
  rw [hk, show (8 : Int32) = nI 8 from rfl, pk_mul, nI_add, nI_add]
theorem tj_i1 (k : Nat) {kk : Int32} (hk : kk = nI k) (p : Nat) : kk + nI p = nI (k + p) := by
  rw [hk, nI_add]
theorem tj_n10 : ¬ (1 : Int32) = 0 := by decide
section
variable {xh xp xv xs : Int32} {oo pp ss gg si pl vn bo ca vc : Nat → Int32}
theorem tj_xcount {g : Nat → Int32} (I : tj_IX g xh oo pp ss gg si) {post : Int32 → Prop} (a b c : Int32) (h : post (nI (tj_C g (tj_q a) (tj_q b) (tj_q c)))) : wpX_count post (xh, xp, xv, xs, oo, pp, ss, gg, si, pl, vn, bo, ca, vc) a b c := by
  obtain ⟨I0, I48, Io, Ip, Is, g0, g1, g2, g3, g4, g5, s0, s1, s2⟩ := I
  unfold wpX_count
  dsimp only
  rcases tj_q_c a with ⟨qa, ha⟩ | ⟨i, hi, rfl⟩
  · rw [qa] at h
    rcases tj_q_c b with ⟨qb, hb⟩ | ⟨j, hj, rfl⟩
    · rw [qb] at h
      rcases tj_q_c c with ⟨qc, hc⟩ | ⟨l, hl, rfl⟩
      · rw [qc, ← I0] at h
        exact tj_isP0 ha (tj_isP0 hb (tj_isP0 hc (br_t rfl (br_t rfl (br_t rfl (nm_r (e' := 0) (by decide) (br_f (by decide) (br_f (by decide) (br_f (by decide) h)))))))))
      · rw [tj_q_nI hl, ← s2 l hl] at h
        refine tj_isP0 ha (tj_isP0 hb (tj_isP1 hl (br_t rfl (br_t rfl (br_f tj_n10 (nm_r (e' := 1) (by decide) (br_f (by decide) (br_f (by decide) (br_t rfl (br_t rfl (br_t rfl ⟨?_, ?_⟩)))))))))))
        · rw [tj_i1 (kk := 16) 16 rfl]; exact vp_in_nI (by omega) (by decide)
        · rw [tj_i1 (kk := 16) 16 rfl, nI_clamp (by omega)]; exact h
    · rw [tj_q_nI hj] at h
      rcases tj_q_c c with ⟨qc, hc⟩ | ⟨l, hl, rfl⟩
      · rw [qc, ← s1 j hj] at h
        refine tj_isP0 ha (tj_isP1 hj (tj_isP0 hc (br_t rfl (br_f tj_n10 (br_t rfl (nm_r (e' := 1) (by decide) (br_f (by decide) (br_f (by decide) (br_t rfl (br_t rfl (br_f tj_n10 ⟨?_, ?_⟩)))))))))))
        · rw [tj_i1 (kk := 8) 8 rfl]; exact vp_in_nI (by omega) (by decide)
        · rw [tj_i1 (kk := 8) 8 rfl, nI_clamp (by omega)]; exact h
      · rw [tj_q_nI hl, ← tj_on_s g hj hl] at h
        refine tj_isP0 ha (tj_isP1 hj (tj_isP1 hl (br_t rfl (br_f tj_n10 (br_f tj_n10 (nm_r (e' := 2) (by decide) (br_f (by decide) (br_t rfl (br_f tj_n10 (br_f tj_n10 ⟨?_, ?_⟩))))))))))
        · rw [tj_i8]; exact vp_in_nI (by omega) (by decide)
        · rw [tj_i8, nI_clamp (by omega)]; exact tj_ones (Is j l hj hl) h
  · rw [tj_q_nI hi] at h
    rcases tj_q_c b with ⟨qb, hb⟩ | ⟨j, hj, rfl⟩
    · rw [qb] at h
      rcases tj_q_c c with ⟨qc, hc⟩ | ⟨l, hl, rfl⟩
      · rw [qc, ← s0 i hi] at h
        refine tj_isP1 hi (tj_isP0 hb (tj_isP0 hc (br_f tj_n10 (br_t rfl (br_t rfl (nm_r (e' := 1) (by decide) (br_f (by decide) (br_f (by decide) (br_t rfl (br_f tj_n10 ⟨?_, ?_⟩))))))))))
        · exact vp_in_nI (by omega) (by decide)
        · rw [nI_clamp (by omega)]; exact h
      · rw [tj_q_nI hl, ← tj_on_p g hi hl] at h
        refine tj_isP1 hi (tj_isP0 hb (tj_isP1 hl (br_f tj_n10 (br_t rfl (br_f tj_n10 (nm_r (e' := 2) (by decide) (br_f (by decide) (br_t rfl (br_f tj_n10 (br_t rfl ⟨?_, ?_⟩))))))))))
        · rw [tj_i8]; exact vp_in_nI (by omega) (by decide)
        · rw [tj_i8, nI_clamp (by omega)]; exact tj_ones (Ip i l hi hl) h
    · rw [tj_q_nI hj] at h
      rcases tj_q_c c with ⟨qc, hc⟩ | ⟨l, hl, rfl⟩
      · rw [qc, ← tj_on_o g hi hj] at h
        refine tj_isP1 hi (tj_isP1 hj (tj_isP0 hc (br_f tj_n10 (br_f tj_n10 (br_t rfl (nm_r (e' := 2) (by decide) (br_f (by decide) (br_t rfl (br_t rfl ⟨?_, ?_⟩)))))))))
        · rw [tj_i8]; exact vp_in_nI (by omega) (by decide)
        · rw [tj_i8, nI_clamp (by omega)]; exact tj_ones (Io i j hi hj) h
      · rw [tj_q_nI hl, tj_C_x g hi hj hl] at h
        refine tj_isP1 hi (tj_isP1 hj (tj_isP1 hl (br_f tj_n10 (br_f tj_n10 (br_f tj_n10 (nm_r (e' := 3) (by decide) (br_t rfl ⟨?_, ?_⟩)))))))
        · rw [tj_i8]; exact vp_in_nI (by omega) (by decide)
        · rw [tj_i8, nI_clamp (by omega), tj_BS_bit (Io i j hi hj) hl]; exact h
def tj_hv (g : Nat → Int32) (a b c : Int32) : Nat := if tj_q a < 8 ∧ tj_q b < 8 ∧ tj_q c < 8 then (tj_f g (64 * tj_q a + 8 * tj_q b + tj_q c)).toNat else 0
theorem tj_hv_0 {g : Nat → Int32} {a b c : Int32} (h : tj_q a = 8 ∨ tj_q b = 8 ∨ tj_q c = 8) : tj_hv g a b c = 0 := if_neg (by omega)
theorem tj_hv_1 {g : Nat → Int32} {i j l : Nat} (hi : i < 8) (hj : j < 8) (hl : l < 8) : tj_hv g (nI i) (nI j) (nI l) = (tj_f g (64 * i + 8 * j + l)).toNat := by
  unfold tj_hv
  rw [tj_q_nI hi, tj_q_nI hj, tj_q_nI hl, if_pos ⟨hi, hj, hl⟩]
theorem tj_xhas {g : Nat → Int32} (I : tj_IX g xh oo pp ss gg si) {post : Int32 → Prop} (a b c : Int32) (h : post (nI (tj_hv g a b c))) : wpX_has post (xh, xp, xv, xs, oo, pp, ss, gg, si, pl, vn, bo, ca, vc) a b c := by
  unfold wpX_has
  dsimp only
  rcases tj_q_c a with ⟨qa, ha⟩ | ⟨i, hi, rfl⟩
  · rw [tj_hv_0 (Or.inl qa)] at h
    exact tj_isP0 ha (br_t rfl h)
  · rcases tj_q_c b with ⟨qb, hb⟩ | ⟨j, hj, rfl⟩
    · rw [tj_hv_0 (Or.inr (Or.inl qb))] at h
      exact tj_isP1 hi (br_f tj_n10 (tj_isP0 hb (br_t rfl h)))
    · rcases tj_q_c c with ⟨qc, hc⟩ | ⟨l, hl, rfl⟩
      · rw [tj_hv_0 (Or.inr (Or.inr qc))] at h
        exact tj_isP1 hi (br_f tj_n10 (tj_isP1 hj (br_f tj_n10 (tj_isP0 hc (br_t rfl h)))))
      · rw [tj_hv_1 hi hj hl] at h
        refine tj_isP1 hi (br_f tj_n10 (tj_isP1 hj (br_f tj_n10 (tj_isP1 hl (br_f tj_n10 ⟨?_, ?_⟩)))))
        · rw [tj_i8]; exact vp_in_nI (by omega) (by decide)
        · rw [tj_i8, nI_clamp (by omega), tj_BS_bit (I.2.2.1 i j hi hj) hl]; exact h
def tj_ad (a : Nat → Int32) (k : Nat) (y : Int32) : Nat → Int32 := upd a k (a k + y)
theorem tj_ad_r (a : Nat → Int32) (k : Nat) (y : Int32) (j : Nat) : tj_ad a k y j = if j = k then a j + y else a j := by
  unfold tj_ad upd
  by_cases h : j = k
  · rw [if_pos h, if_pos h, h]
  · rw [if_neg h, if_neg h]
theorem tj_ad_ne {a : Nat → Int32} {k : Nat} {y : Int32} {j : Nat} (h : ¬ j = k) : tj_ad a k y j = a j := by rw [tj_ad_r, if_neg h]
theorem tj_enter {post : SX → Prop} {s p o : Nat} (hs : s < 8) (hp : p < 8) (ho : o < 8) (y : Int32)
    (h : post (xh, xp, xv, xs, upd oo (8 * s + p) (oo (8 * s + p) ^^^ ((1 : Int32) <<< (nI o &&& 31))), upd pp (8 * s + o) (pp (8 * s + o) ^^^ ((1 : Int32) <<< (nI p &&& 31))), upd ss (8 * p + o) (ss (8 * p + o) ^^^ ((1 : Int32) <<< (nI s &&& 31))), tj_ad (tj_ad (tj_ad (tj_ad (tj_ad (tj_ad gg (8 * s + p) y) (64 + 8 * s + o) y) (128 + 8 * p + s) y) (192 + 8 * p + o) y) (256 + 8 * o + s) y) (320 + 8 * o + p) y, tj_ad (tj_ad (tj_ad si s y) (8 + p) y) (16 + o) y, pl, vn, bo, ca, vc)) :
    wpX_enter post (xh, xp, xv, xs, oo, pp, ss, gg, si, pl, vn, bo, ca, vc) (nI s) (nI p) (nI o) y := by
  have e1 := tj_i8 s p
  have e2 := tj_i8 s o
  have e3 := tj_i8 p o
  have e4 : (64 : Int32) + 8 * nI s + nI o = nI (64 + 8 * s + o) := tj_ik 64 rfl s o
  have e5 : (128 : Int32) + 8 * nI p + nI s = nI (128 + 8 * p + s) := tj_ik 128 rfl p s
  have e6 : (192 : Int32) + 8 * nI p + nI o = nI (192 + 8 * p + o) := tj_ik 192 rfl p o
  have e7 : (256 : Int32) + 8 * nI o + nI s = nI (256 + 8 * o + s) := tj_ik 256 rfl o s
  have e8 : (320 : Int32) + 8 * nI o + nI p = nI (320 + 8 * o + p) := tj_ik 320 rfl o p
  have e9 : (8 : Int32) + nI p = nI (8 + p) := tj_i1 8 rfl p
  have e10 : (16 : Int32) + nI o = nI (16 + o) := tj_i1 16 rfl o
  have c1 : (nI (8 * s + p)).toNatClampNeg = 8 * s + p := nI_clamp (by omega)
  have c2 : (nI (8 * s + o)).toNatClampNeg = 8 * s + o := nI_clamp (by omega)
  have c3 : (nI (8 * p + o)).toNatClampNeg = 8 * p + o := nI_clamp (by omega)
  have c4 : (nI (64 + 8 * s + o)).toNatClampNeg = 64 + 8 * s + o := nI_clamp (by omega)
  have c5 : (nI (128 + 8 * p + s)).toNatClampNeg = 128 + 8 * p + s := nI_clamp (by omega)
  have c6 : (nI (192 + 8 * p + o)).toNatClampNeg = 192 + 8 * p + o := nI_clamp (by omega)
  have c7 : (nI (256 + 8 * o + s)).toNatClampNeg = 256 + 8 * o + s := nI_clamp (by omega)
  have c8 : (nI (320 + 8 * o + p)).toNatClampNeg = 320 + 8 * o + p := nI_clamp (by omega)
  have c9 : (nI (8 + p)).toNatClampNeg = 8 + p := nI_clamp (by omega)
  have c10 : (nI (16 + o)).toNatClampNeg = 16 + o := nI_clamp (by omega)
  have c11 : (nI s).toNatClampNeg = s := nI_clamp (by omega)
  unfold wpX_enter
  dsimp only
  rw [e1, e2, e3, e4, e5, e6, e7, e8, e9, e10, c1, c2, c3, c4, c5, c6, c7, c8, c9, c10, c11]
  have i1 : ∀ {n : Nat}, n < 64 → vp_in (nI n) 64 := fun z => vp_in_nI z (by decide)
  have i2 : ∀ {n : Nat}, n < 384 → vp_in (nI n) 384 := fun z => vp_in_nI z (by decide)
  have i3 : ∀ {n : Nat}, n < 24 → vp_in (nI n) 24 := fun z => vp_in_nI z (by decide)
  refine ⟨i1 (by omega), i1 (by omega), nm_e ⟨i1 (by omega), i1 (by omega), nm_e ⟨i1 (by omega), i1 (by omega), nm_e ?_⟩⟩⟩
  refine ⟨i2 (by omega), i2 (by omega), nm_r (e' := tj_ad gg (8 * s + p) y) rfl ?_⟩
  refine ⟨i2 (by omega), i2 (by omega), nm_r (e' := tj_ad (tj_ad gg (8 * s + p) y) (64 + 8 * s + o) y) rfl ?_⟩
  refine ⟨i2 (by omega), i2 (by omega), nm_r (e' := tj_ad (tj_ad (tj_ad gg (8 * s + p) y) (64 + 8 * s + o) y) (128 + 8 * p + s) y) rfl ?_⟩
  refine ⟨i2 (by omega), i2 (by omega), nm_r (e' := tj_ad (tj_ad (tj_ad (tj_ad gg (8 * s + p) y) (64 + 8 * s + o) y) (128 + 8 * p + s) y) (192 + 8 * p + o) y) rfl ?_⟩
  refine ⟨i2 (by omega), i2 (by omega), nm_r (e' := tj_ad (tj_ad (tj_ad (tj_ad (tj_ad gg (8 * s + p) y) (64 + 8 * s + o) y) (128 + 8 * p + s) y) (192 + 8 * p + o) y) (256 + 8 * o + s) y) rfl ?_⟩
  refine ⟨i2 (by omega), i2 (by omega), nm_r (e' := tj_ad (tj_ad (tj_ad (tj_ad (tj_ad (tj_ad gg (8 * s + p) y) (64 + 8 * s + o) y) (128 + 8 * p + s) y) (192 + 8 * p + o) y) (256 + 8 * o + s) y) (320 + 8 * o + p) y) rfl ?_⟩
  refine ⟨i3 (by omega), i3 (by omega), nm_r (e' := tj_ad si s y) rfl ?_⟩
  refine ⟨i3 (by omega), i3 (by omega), nm_r (e' := tj_ad (tj_ad si s y) (8 + p) y) rfl ?_⟩
  exact ⟨i3 (by omega), i3 (by omega), nm_r (e' := tj_ad (tj_ad (tj_ad si s y) (8 + p) y) (16 + o) y) rfl h⟩
end
theorem tj_ifc {c d : Prop} [Decidable c] [Decidable d] (h : c ↔ d) (a b : Int32) : (if c then a else b) = (if d then a else b) := by
  by_cases z : c
  · rw [if_pos z, if_pos (h.mp z)]
  · rw [if_neg z, if_neg (fun q => z (h.mpr q))]
theorem tj_Fl_ne {g g' : Nat → Int32} {s p o : Nat} {y : Int32} (F : tj_Fl g g' s p o y) {n : Nat} (hn : n < 512) (h : ¬ n = 64 * s + 8 * p + o) : tj_f g n = tj_f g' n := by
  rw [F.1 n hn, decide_eq_false h, Bool.xor_false]
theorem tj_Fl_x {g g' : Nat → Int32} {s p o : Nat} {y : Int32} (F : tj_Fl g g' s p o y) {n i m : Nat} (hn : n < 512) (h : i = m ↔ n = 64 * s + 8 * p + o) : (tj_f g n ^^ decide (i = m)) = tj_f g' n := by
  rw [F.1 n hn]
  exact congrArg (fun z => tj_f g n ^^ z) (decide_eq_decide.mpr h)
section
variable {xh xp xv xs : Int32} {oo pp ss gg si pl vn bo ca vc : Nat → Int32}
theorem tj_IX_fl {g g' : Nat → Int32} {s p o : Nat} (hs : s < 8) (hp : p < 8) (ho : o < 8) {y : Int32} (F : tj_Fl g g' s p o y) (I : tj_IX g xh oo pp ss gg si) (h48 : tj_C g' 8 8 8 ≤ 48) :
    tj_IX g' (xh + y) (upd oo (8 * s + p) (oo (8 * s + p) ^^^ ((1 : Int32) <<< (nI o &&& 31)))) (upd pp (8 * s + o) (pp (8 * s + o) ^^^ ((1 : Int32) <<< (nI p &&& 31)))) (upd ss (8 * p + o) (ss (8 * p + o) ^^^ ((1 : Int32) <<< (nI s &&& 31)))) (tj_ad (tj_ad (tj_ad (tj_ad (tj_ad (tj_ad gg (8 * s + p) y) (64 + 8 * s + o) y) (128 + 8 * p + s) y) (192 + 8 * p + o) y) (256 + 8 * o + s) y) (320 + 8 * o + p) y) (tj_ad (tj_ad (tj_ad si s y) (8 + p) y) (16 + o) y) := by
  obtain ⟨I0, I48, Io, Ip, Is, g0, g1, g2, g3, g4, g5, s0, s1, s2⟩ := I
  refine ⟨?_, h48, ?_, ?_, ?_, ?_, ?_, ?_, ?_, ?_, ?_, ?_, ?_, ?_⟩
  · rw [F.2, tj_ag8, tj_ag8, tj_ag8, I0]; rfl
  · intro a b ha hb
    by_cases z : 8 * a + b = 8 * s + p
    · obtain ⟨rfl, rfl⟩ : a = s ∧ b = p := by omega
      rw [pk_us]
      exact tj_BS_congr (tj_BS_xor (Io a b ha hb) ho) (fun i hi => tj_Fl_x F (by omega) (by omega))
    · rw [pk_un z]
      exact tj_BS_congr (Io a b ha hb) (fun i hi => tj_Fl_ne F (by omega) (by omega))
  · intro a b ha hb
    by_cases z : 8 * a + b = 8 * s + o
    · obtain ⟨rfl, rfl⟩ : a = s ∧ b = o := by omega
      rw [pk_us]
      exact tj_BS_congr (tj_BS_xor (Ip a b ha hb) hp) (fun i hi => tj_Fl_x F (by omega) (by omega))
    · rw [pk_un z]
      exact tj_BS_congr (Ip a b ha hb) (fun i hi => tj_Fl_ne F (by omega) (by omega))
  · intro a b ha hb
    by_cases z : 8 * a + b = 8 * p + o
    · obtain ⟨rfl, rfl⟩ : a = p ∧ b = o := by omega
      rw [pk_us]
      exact tj_BS_congr (tj_BS_xor (Is a b ha hb) hs) (fun i hi => tj_Fl_x F (by omega) (by omega))
    · rw [pk_un z]
      exact tj_BS_congr (Is a b ha hb) (fun i hi => tj_Fl_ne F (by omega) (by omega))
  · intro a b ha hb
    rw [F.2, tj_ag_lt ha, tj_ag_lt hb, tj_ag8, tj_ad_ne (by omega), tj_ad_ne (by omega), tj_ad_ne (by omega), tj_ad_ne (by omega), tj_ad_ne (by omega), tj_ad_r, g0 a b ha hb]
    exact tj_ifc (by simp; omega) _ _
  · intro a b ha hb
    rw [F.2, tj_ag_lt ha, tj_ag_lt hb, tj_ag8, tj_ad_ne (by omega), tj_ad_ne (by omega), tj_ad_ne (by omega), tj_ad_ne (by omega), tj_ad_r, tj_ad_ne (by omega), g1 a b ha hb]
    exact tj_ifc (by simp; omega) _ _
  · intro a b ha hb
    rw [F.2, tj_ag_lt ha, tj_ag_lt hb, tj_ag8, tj_ad_ne (by omega), tj_ad_ne (by omega), tj_ad_ne (by omega), tj_ad_r, tj_ad_ne (by omega), tj_ad_ne (by omega), g2 a b ha hb]
    exact tj_ifc (by simp; omega) _ _
  · intro a b ha hb
    rw [F.2, tj_ag_lt ha, tj_ag_lt hb, tj_ag8, tj_ad_ne (by omega), tj_ad_ne (by omega), tj_ad_r, tj_ad_ne (by omega), tj_ad_ne (by omega), tj_ad_ne (by omega), g3 a b ha hb]
    exact tj_ifc (by simp; omega) _ _
  · intro a b ha hb
    rw [F.2, tj_ag_lt ha, tj_ag_lt hb, tj_ag8, tj_ad_ne (by omega), tj_ad_r, tj_ad_ne (by omega), tj_ad_ne (by omega), tj_ad_ne (by omega), tj_ad_ne (by omega), g4 a b ha hb]
    exact tj_ifc (by simp; omega) _ _
  · intro a b ha hb
    rw [F.2, tj_ag_lt ha, tj_ag_lt hb, tj_ag8, tj_ad_r, tj_ad_ne (by omega), tj_ad_ne (by omega), tj_ad_ne (by omega), tj_ad_ne (by omega), tj_ad_ne (by omega), g5 a b ha hb]
    exact tj_ifc (by simp; omega) _ _
  · intro a ha
    rw [F.2, tj_ag_lt ha, tj_ag8, tj_ag8, tj_ad_ne (by omega), tj_ad_ne (by omega), tj_ad_r, s0 a ha]
    exact tj_ifc (by simp) _ _
  · intro a ha
    rw [F.2, tj_ag_lt ha, tj_ag8, tj_ag8, tj_ad_ne (by omega), tj_ad_r, tj_ad_ne (by omega), s1 a ha]
    exact tj_ifc (by simp) _ _
  · intro a ha
    rw [F.2, tj_ag_lt ha, tj_ag8, tj_ag8, tj_ad_r, tj_ad_ne (by omega), tj_ad_ne (by omega), s2 a ha]
    exact tj_ifc (by simp) _ _
theorem tj_IX_0 {g : Nat → Int32} (hg : ∀ i, i < 512 → g i = 0) : tj_IX g 0 (fun _ => 0) (fun _ => 0) (fun _ => 0) (fun _ => 0) (fun _ => 0) := by
  have hf : ∀ i, i < 512 → tj_f g i = false := fun i hi => by unfold tj_f; rw [hg i hi]; rfl
  have hC : ∀ i j l, tj_C g i j l = 0 := fun i j l => tj_cn_none (a := 0) (b := 512) (by omega) (fun n _ hn => by unfold tj_hit; rw [hf n hn]; rfl)
  refine ⟨by rw [hC]; rfl, by rw [hC]; omega, ?_, ?_, ?_, ?_, ?_, ?_, ?_, ?_, ?_, ?_, ?_, ?_⟩
  · intro a b ha hb; exact tj_BS_congr tj_BS_0 (fun i hi => (hf _ (by omega)).symm)
  · intro a b ha hb; exact tj_BS_congr tj_BS_0 (fun i hi => (hf _ (by omega)).symm)
  · intro a b ha hb; exact tj_BS_congr tj_BS_0 (fun i hi => (hf _ (by omega)).symm)
  · intro a b ha hb; rw [hC]; rfl
  · intro a b ha hb; rw [hC]; rfl
  · intro a b ha hb; rw [hC]; rfl
  · intro a b ha hb; rw [hC]; rfl
  · intro a b ha hb; rw [hC]; rfl
  · intro a b ha hb; rw [hC]; rfl
  · intro a ha; rw [hC]; rfl
  · intro a ha; rw [hC]; rfl
  · intro a ha; rw [hC]; rfl
end
end
section
/-! the component's question: stands, prepare, groundHolds, known, lowest, countSolution -/
theorem tj_i3 (k : Nat) : 3 * nI k = nI (3 * k) := by
  rw [show (3 : Int32) = nI 3 from rfl, pk_mul]
theorem tj_i31 (k : Nat) : 3 * nI k + 1 = nI (3 * k + 1) := by rw [tj_i3, nI_1]
theorem tj_i32 (k : Nat) : 3 * nI k + 2 = nI (3 * k + 2) := by
  rw [tj_i3, show (2 : Int32) = nI 2 from rfl, nI_add]
theorem tj_vin : ∀ v, v < 4 → ¬ (-1) - nI v < -4 ∧ (-1) - nI v ≤ -1 ∧ ¬ (-1) < (-1) - nI v ∧ (-1) - ((-1) - nI v) = nI v := by decide +kernel
theorem tj_vcl (x : Int32) : x < -4 ∨ (¬ x < -4 ∧ ¬ x ≤ -1 ∧ -1 < x) ∨ ∃ v, v < 4 ∧ x = (-1) - nI v := by
  by_cases h : x < -4
  · exact Or.inl h
  · by_cases h2 : x ≤ -1
    · refine Or.inr (Or.inr ?_)
      rw [Int32.lt_iff_toInt_lt, show (-4 : Int32).toInt = -4 from by decide] at h
      rw [Int32.le_iff_toInt_le, show (-1 : Int32).toInt = -1 from by decide] at h2
      rcases (by omega : x.toInt = -1 ∨ x.toInt = -2 ∨ x.toInt = -3 ∨ x.toInt = -4) with z | z | z | z
      · exact ⟨0, by omega, Int32.toInt_inj.mp (z.trans (by decide))⟩
      · exact ⟨1, by omega, Int32.toInt_inj.mp (z.trans (by decide))⟩
      · exact ⟨2, by omega, Int32.toInt_inj.mp (z.trans (by decide))⟩
      · exact ⟨3, by omega, Int32.toInt_inj.mp (z.trans (by decide))⟩
    · exact Or.inr (Or.inl ⟨h, h2, Int32.not_le.mp h2⟩)
section
variable {xh xp xv xs : Int32} {oo pp ss gg si pl vn bo ca vc : Nat → Int32}
theorem tj_stands15 {e : Nat → Nat} {np v : Nat} (hP : tj_PL e pl) (hnp : np ≤ 4) (hv : v < 4) {post : Int32 → Prop} (h1 : tj_st e np v = true → post 1) (h0 : tj_st e np v = false → post 0) :
    ∀ d j, j + d = 3 * np → (∀ i, i < j → ¬ e i = 8 + v) → wX_stands_15 post ((-1) - nI v) xh (nI np) xv xs oo pp ss gg si pl vn bo ca vc (d + 1) (nI j) := by
  intro d
  induction d with
  | zero =>
    intro j hj hn
    refine br_t (by rw [tj_i3]; exact nI_le (by omega) (by omega)) (h0 (tj_bf (fun z => ?_)))
    obtain ⟨k, hk, hek⟩ := tj_st_iff.mp z
    exact hn k (by omega) hek
  | succ d ih =>
    intro j hj hn
    refine br_f (by rw [tj_i3]; exact nI_ge (by omega) (by omega)) ⟨vp_in_nI (by omega) (by decide), ?_⟩
    have hc := tj_pc_v (e j) (hP j (by omega)).1 v hv
    rw [nI_clamp (by omega), (hP j (by omega)).2]
    by_cases z : e j = 8 + v
    · exact br_t (hc.mpr z) (h1 (tj_st_iff.mpr ⟨j, by omega, z⟩))
    · refine br_f (fun q => z (hc.mp q)) (nm_r (nI_1 j) (ih (j + 1) (by omega) (fun i hi => ?_)))
      rcases Nat.lt_or_ge i j with y | y
      · exact hn i y
      · obtain rfl : i = j := by omega
        exact z
theorem tj_xstands {e : Nat → Nat} {np v : Nat} (hP : tj_PL e pl) (hnp : np ≤ 4) (hv : v < 4) {post : Int32 → Prop} (h1 : tj_st e np v = true → post 1) (h0 : tj_st e np v = false → post 0) : wpX_stands post (xh, nI np, xv, xs, oo, pp, ss, gg, si, pl, vn, bo, ca, vc) ((-1) - nI v) := by
  have hb := tj_vin v hv
  unfold wpX_stands
  dsimp only
  exact br_f hb.1 (br_t hb.2.1 ⟨3 * np + 1, tj_stands15 hP hnp hv h1 h0 (3 * np) 0 (by omega) (fun i hi => by omega)⟩)
theorem tj_xstands0 {post : Int32 → Prop} {x : Int32} (hx : x < -4 ∨ (¬ x < -4 ∧ ¬ x ≤ -1)) (h0 : post 0) : wpX_stands post (xh, xp, xv, xs, oo, pp, ss, gg, si, pl, vn, bo, ca, vc) x := by
  unfold wpX_stands
  dsimp only
  rcases hx with z | ⟨z, y⟩
  · exact br_t z h0
  · exact br_f z (br_f y h0)
theorem tj_prep62 {post : SX → Prop} (hK : ∀ vc', (∀ i, i < 32 → vc' i = 0) → post (xh, xp, xv, xs, oo, pp, ss, gg, si, pl, vn, bo, ca, vc')) : ∀ d j vc, j + d = 32 → (∀ i, i < j → vc i = 0) → wX_prepare_62 post xh xp xv xs (d + 1) (nI j) oo pp ss gg si pl vn bo ca vc := by
  intro d
  induction d with
  | zero =>
    intro j vc hj h
    obtain rfl : j = 32 := by omega
    exact br_t (nI_le (a := 32) (by omega) (by omega)) (hK vc h)
  | succ d ih =>
    intro j vc hj h
    refine br_f (nI_ge (b := 32) (by omega) (by decide)) ⟨vp_in_nI (by omega) (by decide), nm_r (e' := upd vc j 0) (by rw [nI_clamp (by omega)]) (nm_r (nI_1 j) (ih (j + 1) _ (by omega) (fun i hi => ?_)))⟩
    by_cases z : i = j
    · rw [z, pk_us]
    · rw [pk_un z]; exact h i (by omega)
theorem tj_prep12 {e : Nat → Nat} {np : Nat} (hP : tj_PL e pl) (hnp : np ≤ 4) {post : SX → Prop}
    (hK : ∀ vn' bo' vc', tj_VN (tj_st e np) vn' → (∀ w, w < 4 → bo' w = -1) → (∀ i, i < 32 → vc' i = 0) → post (xh, nI np, nI (tj_cn (tj_st e np) 4), xs, oo, pp, ss, gg, si, pl, vn', bo', ca, vc')) :
    ∀ d v vn bo, v + d = 4 → (∀ w, w < v → tj_st e np w = true → vn (tj_cn (tj_st e np) w) = nI w) → (∀ w, w < v → bo w = -1) → wX_prepare_12 post xh (nI np) xs (d + 1) (nI v) (nI (tj_cn (tj_st e np) v)) oo pp ss gg si pl vn bo ca vc := by
  intro d
  induction d with
  | zero =>
    intro v vn bo hv hvn hbo
    obtain rfl : v = 4 := by omega
    refine br_t (nI_le (a := 4) (by omega) (by omega)) ⟨33, ?_⟩
    exact tj_prep62 (fun vc' hvc => hK vn bo vc' hvn hbo hvc) 32 0 vc (by omega) (fun i hi => by omega)
  | succ d ih =>
    intro v vn bo hv hvn hbo
    have hle := tj_cn_le (tj_st e np) v
    have hbo' : ∀ w, w < v + 1 → upd bo v (-1) w = -1 := fun w hw => by
      by_cases z : w = v
      · rw [z, pk_us]
      · rw [pk_un z]; exact hbo w (by omega)
    refine br_f (nI_ge (b := 4) (by omega) (by decide)) ⟨vp_in_nI (by omega) (by decide), nm_r (e' := upd bo v (-1)) (by rw [nI_clamp (by omega)]) ?_⟩
    refine tj_xstands hP hnp (by omega) (fun hs => ?_) (fun hs => ?_)
    · refine br_f tj_n10 ⟨vp_in_nI (by omega) (by decide), nm_r (e' := upd vn (tj_cn (tj_st e np) v) (nI v)) (by rw [nI_clamp (by omega)]) (nm_r (e' := nI (tj_cn (tj_st e np) (v + 1))) (by rw [tj_cn_t hs, nI_1]) (nm_r (nI_1 v) (ih (v + 1) _ _ (by omega) (fun w hw hsw => ?_) hbo')))⟩
      by_cases z : w = v
      · rw [z, pk_us]
      · have hlt : tj_cn (tj_st e np) w < tj_cn (tj_st e np) v := tj_sd_lt hsw (by omega)
        rw [pk_un (by omega)]
        exact hvn w (by omega) hsw
    · refine br_t rfl (nm_r (nI_1 v) ?_)
      have := ih (v + 1) vn (upd bo v (-1)) (by omega) (fun w hw hsw => by
        by_cases z : w = v
        · rw [z, hs] at hsw
          exact absurd hsw (by decide)
        · exact hvn w (by omega) hsw) hbo'
      rw [tj_cn_f hs] at this
      exact this
theorem tj_xprep {e : Nat → Nat} {np : Nat} (hP : tj_PL e pl) (hnp : np ≤ 4) {post : SX → Prop}
    (hK : ∀ vn' bo' vc', tj_VN (tj_st e np) vn' → (∀ w, w < 4 → bo' w = -1) → (∀ i, i < 32 → vc' i = 0) → post (xh, nI np, nI (tj_cn (tj_st e np) 4), 0, oo, pp, ss, gg, si, pl, vn', bo', ca, vc')) : wpX_prepare post (xh, nI np, xv, xs, oo, pp, ss, gg, si, pl, vn, bo, ca, vc) := by
  unfold wpX_prepare
  dsimp only
  exact ⟨5, tj_prep12 hP hnp hK 4 0 vn bo (by omega) (fun w hw => by omega) (fun w hw => by omega)⟩
theorem tj_ground2 {g : Nat → Int32} (I : tj_IX g xh oo pp ss gg si) {e : Nat → Nat} {np : Nat} (hP : tj_PL e pl) (hnp : np ≤ 4) {post : Int32 → Prop} (h1 : tj_OK g e np 0 0 → post 1) (h0 : ¬ tj_OK g e np 0 0 → post 0) :
    ∀ d k, k + d = np → tj_OK g e k 0 0 → wX_groundHolds_2 post xh (nI np) xv xs oo pp ss gg si pl vn bo ca vc (d + 1) (nI k) := by
  intro d
  induction d with
  | zero =>
    intro k hk hO
    obtain rfl : k = np := by omega
    exact br_t (nI_le (by omega) (by omega)) (h1 hO)
  | succ d ih =>
    intro k hk hO
    have v0 : vp_in (3 * nI k) 12 := by rw [tj_i3]; exact vp_in_nI (by omega) (by decide)
    have v1 : vp_in (3 * nI k + 1) 12 := by rw [tj_i31]; exact vp_in_nI (by omega) (by decide)
    have v2 : vp_in (3 * nI k + 2) 12 := by rw [tj_i32]; exact vp_in_nI (by omega) (by decide)
    have p0 : pl (3 * nI k).toNatClampNeg = tj_pc (e (3 * k)) := by rw [tj_i3, nI_clamp (by omega)]; exact (hP _ (by omega)).2
    have p1 : pl (3 * nI k + 1).toNatClampNeg = tj_pc (e (3 * k + 1)) := by rw [tj_i31, nI_clamp (by omega)]; exact (hP _ (by omega)).2
    have p2 : pl (3 * nI k + 2).toNatClampNeg = tj_pc (e (3 * k + 2)) := by rw [tj_i32, nI_clamp (by omega)]; exact (hP _ (by omega)).2
    have n0 := tj_pc_neg (e (3 * k)) (hP _ (by omega)).1
    have n1 := tj_pc_neg (e (3 * k + 1)) (hP _ (by omega)).1
    have n2 := tj_pc_neg (e (3 * k + 2)) (hP _ (by omega)).1
    have hnext : (tj_ok g e 0 k = true ∨ 8 ≤ e (3 * k) ∨ 8 ≤ e (3 * k + 1) ∨ 8 ≤ e (3 * k + 2)) → tj_OK g e (k + 1) 0 0 := by
      intro hh k' hk' a0 a1 a2
      rcases Nat.lt_or_ge k' k with y | y
      · exact hO k' y a0 a1 a2
      · obtain rfl : k' = k := by omega
        rcases hh with z | z | z | z
        · exact z
        · omega
        · omega
        · omega
    refine br_f (nI_ge (by omega) (by omega)) ⟨v0, ?_⟩
    rw [p0]
    by_cases z0 : 8 ≤ e (3 * k)
    · exact br_t (n0.mpr z0) (br_t rfl (nm_r (nI_1 k) (ih (k + 1) (by omega) (hnext (Or.inr (Or.inl z0))))))
    · refine br_f (fun q => z0 (n0.mp q)) ⟨v1, ?_⟩
      rw [p1]
      by_cases z1 : 8 ≤ e (3 * k + 1)
      · exact br_t (n1.mpr z1) (br_t rfl (nm_r (nI_1 k) (ih (k + 1) (by omega) (hnext (Or.inr (Or.inr (Or.inl z1)))))))
      · refine br_f (fun q => z1 (n1.mp q)) ⟨v2, ?_⟩
        rw [p2]
        by_cases z2 : 8 ≤ e (3 * k + 2)
        · exact br_t (n2.mpr z2) (br_t rfl (nm_r (nI_1 k) (ih (k + 1) (by omega) (hnext (Or.inr (Or.inr (Or.inr z2)))))))
        · refine br_f (fun q => z2 (n2.mp q)) ?_
          unfold wX_groundHolds_52
          rw [p0, p1, p2, tj_pc_lt (by omega : e (3 * k) < 8), tj_pc_lt (by omega : e (3 * k + 1) < 8), tj_pc_lt (by omega : e (3 * k + 2) < 8), tj_i8, nI_clamp (by omega), tj_BS_bit (I.2.2.1 _ _ (by omega) (by omega)) (by omega : e (3 * k + 2) < 8)]
          refine br_f tj_n10 ⟨v0, v1, vp_in_nI (by omega) (by decide), v2, ?_⟩
          have hok : tj_ok g e 0 k = tj_f g (64 * e (3 * k) + 8 * e (3 * k + 1) + e (3 * k + 2)) := by
            unfold tj_ok tj_vl
            rw [if_pos (by omega), if_pos (by omega), if_pos (by omega)]
          by_cases y : tj_f g (64 * e (3 * k) + 8 * e (3 * k + 1) + e (3 * k + 2)) = true
          · rw [y]
            exact br_f tj_n10 (nm_r (nI_1 k) (ih (k + 1) (by omega) (hnext (Or.inl (hok.trans y)))))
          · rw [tj_bf y]
            refine br_t rfl (h0 (fun hall => y ?_))
            rw [← hok]
            exact hall k (by omega) (by omega) (by omega) (by omega)
theorem tj_xground {g : Nat → Int32} (I : tj_IX g xh oo pp ss gg si) {e : Nat → Nat} {np : Nat} (hP : tj_PL e pl) (hnp : np ≤ 4) {post : Int32 → Prop} (h1 : tj_OK g e np 0 0 → post 1) (h0 : ¬ tj_OK g e np 0 0 → post 0) : wpX_groundHolds post (xh, nI np, xv, xs, oo, pp, ss, gg, si, pl, vn, bo, ca, vc) := by
  unfold wpX_groundHolds
  dsimp only
  exact ⟨np + 1, tj_ground2 I hP hnp h1 h0 np 0 (by omega) (fun k hk => by omega)⟩
theorem tj_xknown {post : Int32 → Prop} {m : Nat} (hm : m < 12) (h : post (if m < 8 then nI m else bo (m - 8))) : wpX_known post (xh, xp, xv, xs, oo, pp, ss, gg, si, pl, vn, bo, ca, vc) (tj_pc m) := by
  unfold wpX_known
  dsimp only
  have hn := tj_pc_neg m hm
  by_cases z : m < 8
  · rw [if_pos z] at h
    rw [tj_pc_lt z] at hn ⊢
    exact br_f (fun q => by have := hn.mp q; omega) h
  · rw [if_neg z] at h
    rw [tj_pc_i m hm (by omega), nI_clamp (by omega)]
    exact br_t (hn.mpr (by omega)) ⟨vp_in_nI (by omega) (by decide), h⟩
end
theorem tj_low2 {post : Int32 → Prop} {x : Int32} {f : Nat → Bool} (hb : tj_BS x f) (h : ∀ y, y < 8 → f y = true → (∀ i, i < y → f i = false) → post (nI y)) (hx : ∃ i, i < 8 ∧ f i = true) :
    ∀ d j, j + d = 8 → (∀ i, i < j → f i = false) → wX_lowest_2 post x (d + 1) (nI j) := by
  intro d
  induction d with
  | zero =>
    intro j hj hn
    obtain ⟨i, hi, hf⟩ := hx
    rw [hn i (by omega)] at hf
    exact absurd hf (by decide)
  | succ d ih =>
    intro j hj hn
    refine br_f (nI_ge (b := 8) (by omega) (by decide)) ?_
    rw [tj_BS_bit hb (by omega)]
    by_cases z : f j = true
    · rw [z]
      exact br_f tj_n10 (h j (by omega) z hn)
    · rw [tj_bf z]
      refine br_t rfl (nm_r (nI_1 j) (ih (j + 1) (by omega) (fun i hi => ?_)))
      rcases Nat.lt_or_ge i j with y | y
      · exact hn i y
      · obtain rfl : i = j := by omega
        exact tj_bf z
theorem tj_low {post : Int32 → Prop} {x : Int32} {f : Nat → Bool} (hb : tj_BS x f) (hx : ¬ x = 0) (h : ∀ y, y < 8 → f y = true → (∀ i, i < y → f i = false) → post (nI y)) : wpX_lowest post x := by
  refine ⟨9, tj_low2 hb h ?_ 8 0 rfl (fun i hi => by omega)⟩
  refine Classical.byContradiction (fun q => hx ((tj_BS_z hb).mpr (fun i hi => tj_bf (fun z => q ⟨i, hi, z⟩))))
section
variable {xh xp xv xs : Int32} {oo pp ss gg si pl vn bo ca vc : Nat → Int32}
theorem tj_cs12 {p : Nat → Bool} {c : Nat} (hvn : tj_VN p vn) (hbd : tj_BD p 4 c bo) {post : SX → Prop} {vc0 : Nat → Int32}
    (hK : ∀ vc', (∀ w x, w < 4 → x < 8 → p w = true → vc' (8 * w + x) = if x = tj_dg c w then vc0 (8 * w + x) + 1 else vc0 (8 * w + x)) → post (xh, xp, nI (tj_cn p 4), xs, oo, pp, ss, gg, si, pl, vn, bo, ca, vc')) :
    ∀ d k vc, k + d = tj_cn p 4 → (∀ w x, w < 4 → x < 8 → p w = true → vc (8 * w + x) = if tj_cn p w < k ∧ x = tj_dg c w then vc0 (8 * w + x) + 1 else vc0 (8 * w + x)) →
      wX_countSolution_12 post xh xp (nI (tj_cn p 4)) xs (d + 1) (nI k) oo pp ss gg si pl vn bo ca vc := by
  have hle := tj_cn_le p 4
  intro d
  induction d with
  | zero =>
    intro k vc hk hvc
    refine br_t (nI_le (by omega) (by omega)) (hK vc (fun w x hw hx hp => ?_))
    have hlt : tj_cn p w < tj_cn p 4 := tj_sd_lt hp (by omega)
    rw [hvc w x hw hx hp]
    exact tj_ifc ⟨fun z => z.2, fun z => ⟨by omega, z⟩⟩ _ _
  | succ d ih =>
    intro k vc hk hvc
    obtain ⟨w, hw, hpw, hkw⟩ := tj_sd_ex (p := p) (k := k) (n := 4) (by omega)
    have e1 : vn (nI k).toNatClampNeg = nI w := by rw [nI_clamp (by omega), ← hkw]; exact hvn w hw hpw
    have e2 : bo (nI w).toNatClampNeg = nI (tj_dg c w) := by rw [nI_clamp (by omega), hbd w hw, if_pos ⟨hw, hpw⟩]
    have hd := tj_dg_lt c w
    refine br_f (nI_ge (by omega) (by omega)) ⟨vp_in_nI (by omega) (by decide), vp_in_nI (by omega) (by decide), ?_⟩
    rw [e1, e2, tj_i8, nI_clamp (by omega)]
    refine ⟨vp_in_nI (by omega) (by decide), vp_in_nI (by omega) (by decide), vp_in_nI (by omega) (by decide), nm_e (nm_r (nI_1 k) (ih (k + 1) _ (by omega) (fun w' x hw' hx hp' => ?_)))⟩
    by_cases z : 8 * w' + x = 8 * w + tj_dg c w
    · have hww : w' = w := by omega
      have hxd : x = tj_dg c w := by omega
      rw [hww, hxd, pk_us, if_pos ⟨by omega, rfl⟩, hvc w (tj_dg c w) hw hd hpw, if_neg (by omega)]
    · rw [pk_un z, hvc w' x hw' hx hp']
      refine tj_ifc ⟨fun q => ⟨by omega, q.2⟩, fun q => ⟨?_, q.2⟩⟩ _ _
      rcases Nat.lt_or_ge (tj_cn p w') k with y | y
      · exact y
      · have hq : tj_cn p w' = tj_cn p w := by omega
        have hww := tj_sd_inj hp' hpw hq
        exfalso
        apply z
        rw [hww, q.2, hww]
theorem tj_xcs {p : Nat → Bool} {c : Nat} (hvn : tj_VN p vn) (hbd : tj_BD p 4 c bo) {post : SX → Prop}
    (hK : ∀ vc', (∀ w x, w < 4 → x < 8 → p w = true → vc' (8 * w + x) = if x = tj_dg c w then vc (8 * w + x) + 1 else vc (8 * w + x)) → post (xh, xp, nI (tj_cn p 4), xs + 1, oo, pp, ss, gg, si, pl, vn, bo, ca, vc')) : wpX_countSolution post (xh, xp, nI (tj_cn p 4), xs, oo, pp, ss, gg, si, pl, vn, bo, ca, vc) := by
  unfold wpX_countSolution
  dsimp only
  refine nm_e ⟨tj_cn p 4 + 1, tj_cs12 hvn hbd hK (tj_cn p 4) 0 vc (by omega) (fun w x hw hx hp => ?_)⟩
  rw [if_neg (by omega)]
end
end
section
/-! the component's sets of allowed numbers -/
def tj_sel (v x m k : Nat) : Nat := if m = 8 + v then x else k
def tj_T (g : Nat → Int32) (v m0 m1 m2 k0 k1 k2 x : Nat) : Bool := decide (0 < tj_C g (tj_sel v x m0 k0) (tj_sel v x m1 k1) (tj_sel v x m2 k2))
theorem tj_part {r : Int32} {T : Nat → Bool} {x : Nat} (hx : x < 8) (hb : tj_BS r (fun i => decide (i < x) && T i)) :
    (T x = false → tj_BS (r ||| 0) (fun i => decide (i < x + 1) && T i)) ∧ (T x = true → tj_BS (r ||| ((1 : Int32) <<< (nI x &&& 31))) (fun i => decide (i < x + 1) && T i)) := by
  constructor
  · intro h
    refine tj_BS_congr (tj_BS_or0 hb) (fun i hi => ?_)
    show (decide (i < x) && T i) = (decide (i < x + 1) && T i)
    by_cases z : i = x
    · rw [z, h, Bool.and_false, Bool.and_false]
    · rw [decide_eq_decide.mpr (by omega : i < x ↔ i < x + 1)]
  · intro h
    refine tj_BS_congr (tj_BS_or hb hx) (fun i hi => ?_)
    show ((decide (i < x) && T i) || decide (i = x)) = (decide (i < x + 1) && T i)
    by_cases z : i = x
    · rw [z, h, decide_eq_true (rfl : x = x), decide_eq_true (by omega : x < x + 1), Bool.or_true, Bool.and_true]
    · rw [decide_eq_decide.mpr (by omega : i < x ↔ i < x + 1), decide_eq_false z, Bool.or_false]
theorem tj_part8 {r : Int32} {T : Nat → Bool} (hb : tj_BS r (fun i => decide (i < 8) && T i)) : tj_BS r T := tj_BS_congr hb (fun i hi => by rw [decide_eq_true hi, Bool.true_and])
theorem tj_part0 (T : Nat → Bool) : tj_BS 0 (fun i => decide (i < 0) && T i) := tj_BS_congr tj_BS_0 (fun i hi => by rw [decide_eq_false (by omega : ¬ i < 0), Bool.false_and])
section
variable {xh xp xv xs : Int32} {oo pp ss gg si pl vn bo ca vc : Nat → Int32}
theorem tj_tw78 {g : Nat → Int32} (I : tj_IX g xh oo pp ss gg si) {post : Int32 → Prop} {J : Int32 → Int32 → Prop} {x1 x2 x3 x4 x5 r z0 z1 z2 : Int32} {T : Nat → Bool} {x : Nat} (hx : x < 8)
    (hb : tj_BS r (fun i => decide (i < x) && T i)) (hT : T x = decide (0 < tj_C g (tj_q z2) (tj_q z1) (tj_q z0)))
    (hJ : ∀ r', tj_BS r' (fun i => decide (i < x + 1) && T i) → J r' (nI (x + 1))) : wX_allowedTwice_78 post J x1 x2 x3 x4 x5 r (nI x) z0 z1 z2 xh xp xv xs oo pp ss gg si pl vn bo ca vc := by
  unfold wX_allowedTwice_78
  refine tj_xcount I z2 z1 z0 ?_
  have hle := tj_C_le g (tj_q z2) (tj_q z1) (tj_q z0)
  by_cases z : 0 < tj_C g (tj_q z2) (tj_q z1) (tj_q z0)
  · rw [decide_eq_true z] at hT
    exact br_f (nI_nle z (by omega)) (nm_e (nm_r (nI_1 x) (hJ _ ((tj_part hx hb).2 hT))))
  · rw [decide_eq_false z] at hT
    have e0 : tj_C g (tj_q z2) (tj_q z1) (tj_q z0) = 0 := by omega
    rw [e0]
    exact br_t (by decide) (nm_e (nm_r (nI_1 x) (hJ _ ((tj_part hx hb).1 hT))))
theorem tj_tw6 {g : Nat → Int32} (I : tj_IX g xh oo pp ss gg si) {e : Nat → Nat} (hP : tj_PL e pl) {v a : Nat} (hv : v < 4) (ha : a + 2 < 12) {x1 x2 x3 : Int32} {post : Int32 → Prop}
    (h : ∀ r, tj_BS r (tj_T g v (e a) (e (a + 1)) (e (a + 2)) (tj_q x1) (tj_q x2) (tj_q x3)) → post r) :
    ∀ d x r, x + d = 8 → tj_BS r (fun i => decide (i < x) && tj_T g v (e a) (e (a + 1)) (e (a + 2)) (tj_q x1) (tj_q x2) (tj_q x3) i) → wX_allowedTwice_6 post x1 x2 x3 (nI v) (nI a) xh xp xv xs oo pp ss gg si pl vn bo ca vc (d + 1) r (nI x) := by
  intro d
  induction d with
  | zero =>
    intro x r hx hb
    obtain rfl : x = 8 := by omega
    exact br_t (nI_le (a := 8) (by omega) (by omega)) (h r (tj_part8 hb))
  | succ d ih =>
    intro x r hx hb
    have hJ : ∀ r', tj_BS r' (fun i => decide (i < x + 1) && tj_T g v (e a) (e (a + 1)) (e (a + 2)) (tj_q x1) (tj_q x2) (tj_q x3) i) → wX_allowedTwice_6 post x1 x2 x3 (nI v) (nI a) xh xp xv xs oo pp ss gg si pl vn bo ca vc (d + 1) r' (nI (x + 1)) := fun r' hb' => ih (x + 1) r' (by omega) hb'
    have hx8 : x < 8 := by omega
    have qx := tj_q_nI hx8
    have c0 := tj_pc_v (e a) (hP a (by omega)).1 v hv
    have c1 := tj_pc_v (e (a + 1)) (hP (a + 1) (by omega)).1 v hv
    have c2 := tj_pc_v (e (a + 2)) (hP (a + 2) (by omega)).1 v hv
    have p0 : pl (nI a).toNatClampNeg = tj_pc (e a) := by rw [nI_clamp (by omega)]; exact (hP _ (by omega)).2
    have p1 : pl (nI a + 1).toNatClampNeg = tj_pc (e (a + 1)) := by rw [nI_1, nI_clamp (by omega)]; exact (hP _ (by omega)).2
    have p2 : pl (nI a + 2).toNatClampNeg = tj_pc (e (a + 2)) := by rw [show nI a + 2 = nI (a + 2) from nI_add a 2, nI_clamp (by omega)]; exact (hP _ (by omega)).2
    have v0 : vp_in (nI a) 12 := vp_in_nI (by omega) (by decide)
    have v1 : vp_in (nI a + 1) 12 := by rw [nI_1]; exact vp_in_nI (by omega) (by decide)
    have v2 : vp_in (nI a + 2) 12 := by rw [show nI a + 2 = nI (a + 2) from nI_add a 2]; exact vp_in_nI (by omega) (by decide)
    have k56 : ∀ z0 z1 : Int32, tj_q z1 = tj_sel v x (e a) (tj_q x1) → tj_q z0 = tj_sel v x (e (a + 1)) (tj_q x2) → wX_allowedTwice_56 post (wX_allowedTwice_6 post x1 x2 x3 (nI v) (nI a) xh xp xv xs oo pp ss gg si pl vn bo ca vc (d + 1)) x1 x2 x3 (nI v) (nI a) r (nI x) z0 z1 xh xp xv xs oo pp ss gg si pl vn bo ca vc := by
      intro z0 z1 h1 h0
      unfold wX_allowedTwice_56
      refine ⟨v2, ?_⟩
      rw [p2]
      by_cases y : e (a + 2) = 8 + v
      · refine br_t (c2.mpr y) (tj_tw78 I hx8 hb ?_ hJ)
        unfold tj_T
        rw [h1, h0, qx, tj_sel, tj_sel, tj_sel, if_pos y]
      · refine br_f (fun q => y (c2.mp q)) (tj_tw78 I hx8 hb ?_ hJ)
        unfold tj_T
        rw [h1, h0, tj_sel, tj_sel, tj_sel, if_neg y]
    have k34 : ∀ z0 : Int32, tj_q z0 = tj_sel v x (e a) (tj_q x1) → wX_allowedTwice_34 post (wX_allowedTwice_6 post x1 x2 x3 (nI v) (nI a) xh xp xv xs oo pp ss gg si pl vn bo ca vc (d + 1)) x1 x2 x3 (nI v) (nI a) r (nI x) z0 xh xp xv xs oo pp ss gg si pl vn bo ca vc := by
      intro z0 h0
      unfold wX_allowedTwice_34
      refine ⟨v1, ?_⟩
      rw [p1]
      by_cases y : e (a + 1) = 8 + v
      · exact br_t (c1.mpr y) (k56 _ _ h0 (by rw [qx, tj_sel, if_pos y]))
      · exact br_f (fun q => y (c1.mp q)) (k56 _ _ h0 (by rw [tj_sel, if_neg y]))
    refine br_f (nI_ge (b := 8) (by omega) (by decide)) ⟨v0, ?_⟩
    rw [p0]
    by_cases y : e a = 8 + v
    · exact br_t (c0.mpr y) (k34 _ (by rw [qx, tj_sel, if_pos y]))
    · exact br_f (fun q => y (c0.mp q)) (k34 _ (by rw [tj_sel, if_neg y]))
theorem tj_xtw {g : Nat → Int32} (I : tj_IX g xh oo pp ss gg si) {e : Nat → Nat} (hP : tj_PL e pl) {v a : Nat} (hv : v < 4) (ha : a + 2 < 12) {x1 x2 x3 : Int32} {post : Int32 → Prop}
    (h : ∀ r, tj_BS r (tj_T g v (e a) (e (a + 1)) (e (a + 2)) (tj_q x1) (tj_q x2) (tj_q x3)) → post r) : wpX_allowedTwice post (xh, xp, xv, xs, oo, pp, ss, gg, si, pl, vn, bo, ca, vc) x1 x2 x3 (nI v) (nI a) := by
  unfold wpX_allowedTwice
  dsimp only
  exact ⟨9, tj_tw6 I hP hv ha h 8 0 0 rfl (tj_part0 _)⟩
theorem tj_ways5 {r a : Nat} (hr : r < 6) (ha : a < 8) {c : Nat → Nat} (hc : ∀ x, x < 8 → c x < 2 ^ 31 ∧ gg (64 * r + 8 * a + x) = nI (c x)) {post : Int32 → Prop} (h : ∀ q, tj_BS q (fun x => decide (0 < c x)) → post q) :
    ∀ d x q, x + d = 8 → tj_BS q (fun i => decide (i < x) && decide (0 < c i)) → wX_ways_5 post (nI r) (nI a) xh xp xv xs oo pp ss gg si pl vn bo ca vc (d + 1) q (nI x) := by
  intro d
  induction d with
  | zero =>
    intro x q hx hb
    obtain rfl : x = 8 := by omega
    exact br_t (nI_le (a := 8) (by omega) (by omega)) (h q (tj_part8 hb))
  | succ d ih =>
    intro x q hx hb
    have e1 : (64 * nI r + 8 * nI a) + nI x = nI (64 * r + 8 * a + x) := by
      rw [show (64 : Int32) = nI 64 from rfl, show (8 : Int32) = nI 8 from rfl, pk_mul, pk_mul, nI_add, nI_add]
    have hcx := hc x (by omega)
    refine br_f (nI_ge (b := 8) (by omega) (by decide)) ?_
    rw [e1, nI_clamp (by omega), hcx.2]
    refine ⟨vp_in_nI (by omega) (by decide), ?_⟩
    by_cases z : 0 < c x
    · exact br_f (nI_nle z hcx.1) (nm_e (nm_r (nI_1 x) (ih (x + 1) _ (by omega) ((tj_part (T := fun i => decide (0 < c i)) (by omega) hb).2 (decide_eq_true z)))))
    · have e0 : c x = 0 := by omega
      rw [e0]
      exact br_t (by decide) (nm_e (nm_r (nI_1 x) (ih (x + 1) _ (by omega) ((tj_part (T := fun i => decide (0 < c i)) (by omega) hb).1 (decide_eq_false z)))))
theorem tj_xways {rr : Int32} {r a : Nat} (hrr : rr = nI r) (hr : r < 6) (ha : a < 8) {c : Nat → Nat} (hc : ∀ x, x < 8 → c x < 2 ^ 31 ∧ gg (64 * r + 8 * a + x) = nI (c x)) {post : Int32 → Prop} (h : ∀ q, tj_BS q (fun x => decide (0 < c x)) → post q) : wpX_ways post (xh, xp, xv, xs, oo, pp, ss, gg, si, pl, vn, bo, ca, vc) rr (nI a) := by
  rw [hrr]
  unfold wpX_ways
  dsimp only
  exact ⟨9, tj_ways5 hr ha hc h 8 0 0 rfl (tj_part0 _)⟩
theorem tj_alone4 {r : Nat} (hr : r < 3) {c : Nat → Nat} (hc : ∀ x, x < 8 → c x < 2 ^ 31 ∧ si (8 * r + x) = nI (c x)) {post : Int32 → Prop} (h : ∀ q, tj_BS q (fun x => decide (0 < c x)) → post q) :
    ∀ d x q, x + d = 8 → tj_BS q (fun i => decide (i < x) && decide (0 < c i)) → wX_alone_4 post (nI r) xh xp xv xs oo pp ss gg si pl vn bo ca vc (d + 1) q (nI x) := by
  intro d
  induction d with
  | zero =>
    intro x q hx hb
    obtain rfl : x = 8 := by omega
    exact br_t (nI_le (a := 8) (by omega) (by omega)) (h q (tj_part8 hb))
  | succ d ih =>
    intro x q hx hb
    have hcx := hc x (by omega)
    refine br_f (nI_ge (b := 8) (by omega) (by decide)) ?_
    rw [tj_i8, nI_clamp (by omega), hcx.2]
    refine ⟨vp_in_nI (by omega) (by decide), ?_⟩
    by_cases z : 0 < c x
    · exact br_f (nI_nle z hcx.1) (nm_e (nm_r (nI_1 x) (ih (x + 1) _ (by omega) ((tj_part (T := fun i => decide (0 < c i)) (by omega) hb).2 (decide_eq_true z)))))
    · have e0 : c x = 0 := by omega
      rw [e0]
      exact br_t (by decide) (nm_e (nm_r (nI_1 x) (ih (x + 1) _ (by omega) ((tj_part (T := fun i => decide (0 < c i)) (by omega) hb).1 (decide_eq_false z)))))
theorem tj_xalone {rr : Int32} {r : Nat} (hrr : rr = nI r) (hr : r < 3) {c : Nat → Nat} (hc : ∀ x, x < 8 → c x < 2 ^ 31 ∧ si (8 * r + x) = nI (c x)) {post : Int32 → Prop} (h : ∀ q, tj_BS q (fun x => decide (0 < c x)) → post q) : wpX_alone post (xh, xp, xv, xs, oo, pp, ss, gg, si, pl, vn, bo, ca, vc) rr := by
  rw [hrr]
  unfold wpX_alone
  dsimp only
  exact ⟨9, tj_alone4 hr hc h 8 0 0 rfl (tj_part0 _)⟩
def tj_kn (x : Int32) : Prop := x < 0 ∨ ∃ j, j < 8 ∧ x = nI j
theorem tj_f01 (b : Bool) : decide (0 < b.toNat) = b := by cases b <;> rfl
theorem tj_by0 {g : Nat → Int32} (I : tj_IX g xh oo pp ss gg si) {post : Int32 → Prop} {x2 x3 : Int32} (h2 : tj_kn x2) (h3 : tj_kn x3) (h : ∀ r, tj_BS r (fun x => decide (0 < tj_C g x (tj_q x2) (tj_q x3))) → post r) :
    (x2 < 0 → wX_allowedBy_125 post x2 x3 xh xp xv xs oo pp ss gg si pl vn bo ca vc) ∧ (¬ x2 < 0 → ((x3 < 0 → wX_allowedBy_125 post x2 x3 xh xp xv xs oo pp ss gg si pl vn bo ca vc) ∧ (¬ x3 < 0 → (vp_in ((8 * x2) + x3) 64 ∧ post (ss ((8 * x2) + x3).toNatClampNeg))))) := by
  obtain ⟨I0, I48, Io, Ip, Is, g0, g1, g2, g3, g4, g5, s0, s1, s2⟩ := I
  rcases h2 with z2 | ⟨j, hj, rfl⟩
  · rw [tj_q_neg z2] at h
    rcases h3 with z3 | ⟨l, hl, rfl⟩
    · rw [tj_q_neg z3] at h
      refine br_t z2 (br_t z2 (br_t z3 (tj_xalone (r := 0) rfl (by omega) (c := fun x => tj_C g x 8 8) (fun x hx => ⟨Nat.lt_of_le_of_lt (tj_C_le _ _ _ _) (by decide), ?_⟩) h)))
      rw [show 8 * 0 + x = x by omega]
      exact s0 x hx
    · rw [tj_q_nI hl] at h
      refine br_t z2 (br_t z2 (br_f (nI_pos (by omega)) (tj_xways (r := 4) rfl (by omega) hl (c := fun x => tj_C g x 8 l) (fun x hx => ⟨Nat.lt_of_le_of_lt (tj_C_le _ _ _ _) (by decide), ?_⟩) h)))
      exact g4 l x hl hx
  · rw [tj_q_nI hj] at h
    have n2 := nI_pos (n := j) (by omega)
    rcases h3 with z3 | ⟨l, hl, rfl⟩
    · rw [tj_q_neg z3] at h
      refine br_f n2 (br_t z3 (br_f n2 (tj_xways (r := 2) rfl (by omega) hj (c := fun x => tj_C g x j 8) (fun x hx => ⟨Nat.lt_of_le_of_lt (tj_C_le _ _ _ _) (by decide), ?_⟩) h)))
      exact g2 j x hj hx
    · rw [tj_q_nI hl] at h
      refine br_f n2 (br_f (nI_pos (by omega)) ?_)
      rw [tj_i8, nI_clamp (by omega)]
      refine ⟨vp_in_nI (by omega) (by decide), h _ (tj_BS_congr (Is j l hj hl) (fun x hx => ?_))⟩
      rw [tj_C_x g hx hj hl, tj_f01]
theorem tj_by1 {g : Nat → Int32} (I : tj_IX g xh oo pp ss gg si) {post : Int32 → Prop} {x1 x3 : Int32} (h1 : tj_kn x1) (h3 : tj_kn x3) (h : ∀ r, tj_BS r (fun x => decide (0 < tj_C g (tj_q x1) x (tj_q x3))) → post r) :
    (x1 < 0 → wX_allowedBy_195 post x1 x3 xh xp xv xs oo pp ss gg si pl vn bo ca vc) ∧ (¬ x1 < 0 → ((x3 < 0 → wX_allowedBy_195 post x1 x3 xh xp xv xs oo pp ss gg si pl vn bo ca vc) ∧ (¬ x3 < 0 → (vp_in ((8 * x1) + x3) 64 ∧ post (pp ((8 * x1) + x3).toNatClampNeg))))) := by
  obtain ⟨I0, I48, Io, Ip, Is, g0, g1, g2, g3, g4, g5, s0, s1, s2⟩ := I
  rcases h1 with z2 | ⟨j, hj, rfl⟩
  · rw [tj_q_neg z2] at h
    rcases h3 with z3 | ⟨l, hl, rfl⟩
    · rw [tj_q_neg z3] at h
      refine br_t z2 (br_t z2 (br_t z3 (tj_xalone (r := 1) rfl (by omega) (c := fun x => tj_C g 8 x 8) (fun x hx => ⟨Nat.lt_of_le_of_lt (tj_C_le _ _ _ _) (by decide), ?_⟩) h)))
      exact s1 x hx
    · rw [tj_q_nI hl] at h
      refine br_t z2 (br_t z2 (br_f (nI_pos (by omega)) (tj_xways (r := 5) rfl (by omega) hl (c := fun x => tj_C g 8 x l) (fun x hx => ⟨Nat.lt_of_le_of_lt (tj_C_le _ _ _ _) (by decide), ?_⟩) h)))
      exact g5 l x hl hx
  · rw [tj_q_nI hj] at h
    have n2 := nI_pos (n := j) (by omega)
    rcases h3 with z3 | ⟨l, hl, rfl⟩
    · rw [tj_q_neg z3] at h
      refine br_f n2 (br_t z3 (br_f n2 (tj_xways (r := 0) rfl (by omega) hj (c := fun x => tj_C g j x 8) (fun x hx => ⟨Nat.lt_of_le_of_lt (tj_C_le _ _ _ _) (by decide), ?_⟩) h)))
      rw [show 64 * 0 + 8 * j + x = 8 * j + x by omega]
      exact g0 j x hj hx
    · rw [tj_q_nI hl] at h
      refine br_f n2 (br_f (nI_pos (by omega)) ?_)
      rw [tj_i8, nI_clamp (by omega)]
      refine ⟨vp_in_nI (by omega) (by decide), h _ (tj_BS_congr (Ip j l hj hl) (fun x hx => ?_))⟩
      rw [tj_C_x g hj hx hl, tj_f01]
theorem tj_by2 {g : Nat → Int32} (I : tj_IX g xh oo pp ss gg si) {post : Int32 → Prop} {x1 x2 : Int32} (h1 : tj_kn x1) (h2 : tj_kn x2) (h : ∀ r, tj_BS r (fun x => decide (0 < tj_C g (tj_q x1) (tj_q x2) x)) → post r) :
    (x1 < 0 → wX_allowedBy_249 post x1 x2 xh xp xv xs oo pp ss gg si pl vn bo ca vc) ∧ (¬ x1 < 0 → ((x2 < 0 → wX_allowedBy_249 post x1 x2 xh xp xv xs oo pp ss gg si pl vn bo ca vc) ∧ (¬ x2 < 0 → (vp_in ((8 * x1) + x2) 64 ∧ post (oo ((8 * x1) + x2).toNatClampNeg))))) := by
  obtain ⟨I0, I48, Io, Ip, Is, g0, g1, g2, g3, g4, g5, s0, s1, s2⟩ := I
  rcases h1 with z2 | ⟨j, hj, rfl⟩
  · rw [tj_q_neg z2] at h
    rcases h2 with z3 | ⟨l, hl, rfl⟩
    · rw [tj_q_neg z3] at h
      refine br_t z2 (br_t z2 (br_t z3 (tj_xalone (r := 2) rfl (by omega) (c := fun x => tj_C g 8 8 x) (fun x hx => ⟨Nat.lt_of_le_of_lt (tj_C_le _ _ _ _) (by decide), ?_⟩) h)))
      exact s2 x hx
    · rw [tj_q_nI hl] at h
      refine br_t z2 (br_t z2 (br_f (nI_pos (by omega)) (tj_xways (r := 3) rfl (by omega) hl (c := fun x => tj_C g 8 l x) (fun x hx => ⟨Nat.lt_of_le_of_lt (tj_C_le _ _ _ _) (by decide), ?_⟩) h)))
      exact g3 l x hl hx
  · rw [tj_q_nI hj] at h
    have n2 := nI_pos (n := j) (by omega)
    rcases h2 with z3 | ⟨l, hl, rfl⟩
    · rw [tj_q_neg z3] at h
      refine br_f n2 (br_t z3 (br_f n2 (tj_xways (r := 1) rfl (by omega) hj (c := fun x => tj_C g j 8 x) (fun x hx => ⟨Nat.lt_of_le_of_lt (tj_C_le _ _ _ _) (by decide), ?_⟩) h)))
      exact g1 j x hj hx
    · rw [tj_q_nI hl] at h
      refine br_f n2 (br_f (nI_pos (by omega)) ?_)
      rw [tj_i8, nI_clamp (by omega)]
      refine ⟨vp_in_nI (by omega) (by decide), h _ (tj_BS_congr (Io j l hj hl) (fun x hx => ?_))⟩
      rw [tj_C_x g hj hl hx, tj_f01]
theorem tj_xby {g : Nat → Int32} (I : tj_IX g xh oo pp ss gg si) {e : Nat → Nat} (hP : tj_PL e pl) {v k : Nat} (hv : v < 4) (hk : k < 4) (ho : tj_oc e v k) {x1 x2 x3 : Int32} (h1 : tj_kn x1) (h2 : tj_kn x2) (h3 : tj_kn x3) {post : Int32 → Prop}
    (h : ∀ r, tj_BS r (tj_T g v (e (3 * k)) (e (3 * k + 1)) (e (3 * k + 2)) (tj_q x1) (tj_q x2) (tj_q x3)) → post r) : wpX_allowedBy post (xh, xp, xv, xs, oo, pp, ss, gg, si, pl, vn, bo, ca, vc) x1 x2 x3 (nI v) (nI k) := by
  unfold wpX_allowedBy
  dsimp only
  refine nm_r (tj_i3 k) ?_
  have c0 := tj_pc_v (e (3 * k)) (hP _ (by omega)).1 v hv
  have c1 := tj_pc_v (e (3 * k + 1)) (hP _ (by omega)).1 v hv
  have c2 := tj_pc_v (e (3 * k + 2)) (hP _ (by omega)).1 v hv
  have p0 : pl (nI (3 * k)).toNatClampNeg = tj_pc (e (3 * k)) := by rw [nI_clamp (by omega)]; exact (hP _ (by omega)).2
  have p1 : pl (nI (3 * k) + 1).toNatClampNeg = tj_pc (e (3 * k + 1)) := by rw [nI_1, nI_clamp (by omega)]; exact (hP _ (by omega)).2
  have p2 : pl (nI (3 * k) + 2).toNatClampNeg = tj_pc (e (3 * k + 2)) := by rw [show nI (3 * k) + 2 = nI (3 * k + 2) from nI_add (3 * k) 2, nI_clamp (by omega)]; exact (hP _ (by omega)).2
  have v0 : vp_in (nI (3 * k)) 12 := vp_in_nI (by omega) (by decide)
  have v1 : vp_in (nI (3 * k) + 1) 12 := by rw [nI_1]; exact vp_in_nI (by omega) (by decide)
  have v2 : vp_in (nI (3 * k) + 2) 12 := by rw [show nI (3 * k) + 2 = nI (3 * k + 2) from nI_add (3 * k) 2]; exact vp_in_nI (by omega) (by decide)
  have htw := tj_xtw (xh := xh) (xp := xp) (xv := xv) (xs := xs) (vn := vn) (bo := bo) (ca := ca) (vc := vc) I hP hv (by omega : 3 * k + 2 < 12) h
  refine ⟨v0, ?_⟩
  rw [p0]
  by_cases y0 : e (3 * k) = 8 + v
  · refine br_t (c0.mpr y0) ?_
    unfold wX_allowedBy_25
    refine ⟨v1, ?_⟩
    rw [p1]
    by_cases y1 : e (3 * k + 1) = 8 + v
    · refine br_t (c1.mpr y1) ?_
      unfold wX_allowedBy_46
      refine ⟨v2, ?_⟩
      rw [p2]
      by_cases y2 : e (3 * k + 2) = 8 + v
      · exact br_t (c2.mpr y2) (nm_r (e' := 3) (by decide) (br_f (by decide) htw))
      · exact br_f (fun q => y2 (c2.mp q)) (nm_r (e' := 2) (by decide) (br_f (by decide) htw))
    · refine br_f (fun q => y1 (c1.mp q)) ?_
      unfold wX_allowedBy_46
      refine ⟨v2, ?_⟩
      rw [p2]
      by_cases y2 : e (3 * k + 2) = 8 + v
      · exact br_t (c2.mpr y2) (nm_r (e' := 2) (by decide) (br_f (by decide) htw))
      · refine br_f (fun q => y2 (c2.mp q)) (nm_r (e' := 1) (by decide) (br_t (by decide) ⟨v0, ?_⟩))
        rw [p0]
        refine br_t (c0.mpr y0) (tj_by0 I h2 h3 (fun r hr => h r (tj_BS_congr hr (fun x hx => ?_))))
        unfold tj_T tj_sel
        rw [if_pos y0, if_neg y1, if_neg y2]
  · refine br_f (fun q => y0 (c0.mp q)) ?_
    unfold wX_allowedBy_25
    refine ⟨v1, ?_⟩
    rw [p1]
    by_cases y1 : e (3 * k + 1) = 8 + v
    · refine br_t (c1.mpr y1) ?_
      unfold wX_allowedBy_46
      refine ⟨v2, ?_⟩
      rw [p2]
      by_cases y2 : e (3 * k + 2) = 8 + v
      · exact br_t (c2.mpr y2) (nm_r (e' := 2) (by decide) (br_f (by decide) htw))
      · refine br_f (fun q => y2 (c2.mp q)) (nm_r (e' := 1) (by decide) (br_t (by decide) ⟨v0, ?_⟩))
        rw [p0]
        refine br_f (fun q => y0 (c0.mp q)) ⟨v1, ?_⟩
        rw [p1]
        refine br_t (c1.mpr y1) (tj_by1 I h1 h3 (fun r hr => h r (tj_BS_congr hr (fun x hx => ?_))))
        unfold tj_T tj_sel
        rw [if_pos y1, if_neg y0, if_neg y2]
    · refine br_f (fun q => y1 (c1.mp q)) ?_
      unfold wX_allowedBy_46
      refine ⟨v2, ?_⟩
      rw [p2]
      have y2 : e (3 * k + 2) = 8 + v := by
        unfold tj_oc at ho
        omega
      refine br_t (c2.mpr y2) (nm_r (e' := 1) (by decide) (br_t (by decide) ⟨v0, ?_⟩))
      rw [p0]
      refine br_f (fun q => y0 (c0.mp q)) ⟨v1, ?_⟩
      rw [p1]
      refine br_f (fun q => y1 (c1.mp q)) (tj_by2 I h1 h2 (fun r hr => h r (tj_BS_congr hr (fun x hx => ?_))))
      unfold tj_T tj_sel
      rw [if_pos y2, if_neg y0, if_neg y1]
/-- what is known at a place under the first digits -/
def tj_kv (bo : Nat → Int32) (m : Nat) : Int32 := if m < 8 then nI m else bo (m - 8)
theorem tj_kv_kn {p : Nat → Bool} {v c : Nat} (hbd : tj_BD p v c bo) {m : Nat} (hm : m < 12) : tj_kn (tj_kv bo m) := by
  unfold tj_kv
  by_cases z : m < 8
  · rw [if_pos z]; exact Or.inr ⟨m, z, rfl⟩
  · rw [if_neg z, hbd (m - 8) (by omega)]
    by_cases y : m - 8 < v ∧ p (m - 8) = true
    · rw [if_pos y]; exact Or.inr ⟨_, tj_dg_lt _ _, rfl⟩
    · rw [if_neg y]; exact Or.inl (by decide)
theorem tj_sel_kq {p : Nat → Bool} {v c : Nat} (hbd : tj_BD p v c bo) {m : Nat} (hm : m < 12) (hp : 8 ≤ m → p (m - 8) = true) (x : Nat) : tj_sel v x m (tj_q (tj_kv bo m)) = tj_kq v c x m := by
  unfold tj_sel tj_kq tj_kv
  by_cases a : m = 8 + v
  · rw [if_pos a, if_pos a]
  · rw [if_neg a, if_neg a]
    by_cases z : m < 8
    · rw [if_pos z, if_pos z]; exact tj_q_nI z
    · rw [if_neg z, if_neg z, hbd (m - 8) (by omega)]
      by_cases y : m - 8 < v
      · rw [if_pos ⟨y, hp (by omega)⟩, if_pos y]; exact tj_q_nI (tj_dg_lt _ _)
      · rw [if_neg (fun q => y q.1), if_neg y]; exact tj_q_neg (by decide)
theorem tj_allow6 {g : Nat → Int32} (I : tj_IX g xh oo pp ss gg si) {e : Nat → Nat} {np : Nat} (hP : tj_PL e pl) (hnp : np ≤ 4) {v c : Nat} (hv : v < 4) (hbd : tj_BD (tj_st e np) v c bo) {post : Int32 → Prop} (h : ∀ r, tj_BS r (tj_A g e np v c) → post r) :
    ∀ d k r, k + d = np → tj_BS r (tj_A g e k v c) → wX_allowed_6 post (nI v) xh (nI np) xv xs oo pp ss gg si pl vn bo ca vc (d + 1) r (nI k) := by
  intro d
  induction d with
  | zero =>
    intro k r hk hb
    obtain rfl : k = np := by omega
    exact br_t (nI_le (by omega) (by omega)) (h r hb)
  | succ d ih =>
    intro k r hk hb
    have v0 : vp_in (3 * nI k) 12 := by rw [tj_i3]; exact vp_in_nI (by omega) (by decide)
    have v1 : vp_in (3 * nI k + 1) 12 := by rw [tj_i31]; exact vp_in_nI (by omega) (by decide)
    have v2 : vp_in (3 * nI k + 2) 12 := by rw [tj_i32]; exact vp_in_nI (by omega) (by decide)
    have p0 : pl (3 * nI k).toNatClampNeg = tj_pc (e (3 * k)) := by rw [tj_i3, nI_clamp (by omega)]; exact (hP _ (by omega)).2
    have p1 : pl (3 * nI k + 1).toNatClampNeg = tj_pc (e (3 * k + 1)) := by rw [tj_i31, nI_clamp (by omega)]; exact (hP _ (by omega)).2
    have p2 : pl (3 * nI k + 2).toNatClampNeg = tj_pc (e (3 * k + 2)) := by rw [tj_i32, nI_clamp (by omega)]; exact (hP _ (by omega)).2
    have m0 := (hP (3 * k) (by omega)).1
    have m1 := (hP (3 * k + 1) (by omega)).1
    have m2 := (hP (3 * k + 2) (by omega)).1
    have c0 := tj_pc_v (e (3 * k)) m0 v hv
    have c1 := tj_pc_v (e (3 * k + 1)) m1 v hv
    have c2 := tj_pc_v (e (3 * k + 2)) m2 v hv
    have hst : ∀ j, j < 3 * np → 8 ≤ e j → tj_st e np (e j - 8) = true := fun j hj h8 => tj_st_iff.mpr ⟨j, hj, by omega⟩
    have hyes : tj_oc e v k → wX_allowed_72 post (wX_allowed_6 post (nI v) xh (nI np) xv xs oo pp ss gg si pl vn bo ca vc (d + 1)) (nI v) r (nI k) (tj_pc (e (3 * k))) (tj_pc (e (3 * k + 1))) (tj_pc (e (3 * k + 2))) xh (nI np) xv xs oo pp ss gg si pl vn bo ca vc := by
      intro ho
      unfold wX_allowed_72
      refine tj_xknown m0 (tj_xknown m1 (tj_xknown m2 ?_))
      refine tj_xby I hP hv (by omega) ho (tj_kv_kn hbd m0) (tj_kv_kn hbd m1) (tj_kv_kn hbd m2) (fun q hq => nm_e (nm_r (nI_1 k) (ih (k + 1) _ (by omega) (tj_BS_congr (tj_BS_and hb hq) (fun x hx => ?_)))))
      show (tj_A g e k v c x && tj_T g v (e (3 * k)) (e (3 * k + 1)) (e (3 * k + 2)) (tj_q (tj_kv bo (e (3 * k)))) (tj_q (tj_kv bo (e (3 * k + 1)))) (tj_q (tj_kv bo (e (3 * k + 2)))) x) = tj_A g e (k + 1) v c x
      unfold tj_T
      rw [tj_sel_kq hbd m0 (hst _ (by omega)), tj_sel_kq hbd m1 (hst _ (by omega)), tj_sel_kq hbd m2 (hst _ (by omega)), Bool.eq_iff_iff, Bool.and_eq_true, decide_eq_true_iff, tj_A_t, tj_A_t]
      constructor
      · rintro ⟨a, b⟩ k' hk' ho'
        rcases Nat.lt_or_ge k' k with y | y
        · exact a k' y ho'
        · obtain rfl : k' = k := by omega
          exact b
      · intro a
        exact ⟨fun k' hk' ho' => a k' (by omega) ho', a k (by omega) ho⟩
    have hno : ¬ tj_oc e v k → wX_allowed_6 post (nI v) xh (nI np) xv xs oo pp ss gg si pl vn bo ca vc (d + 1) r (nI (k + 1)) := by
      intro ho
      refine ih (k + 1) r (by omega) (tj_BS_congr hb (fun x hx => ?_))
      rw [Bool.eq_iff_iff, tj_A_t, tj_A_t]
      constructor
      · intro a k' hk' ho'
        rcases Nat.lt_or_ge k' k with y | y
        · exact a k' y ho'
        · obtain rfl : k' = k := by omega
          exact absurd ho' ho
      · intro a k' hk' ho'
        exact a k' (by omega) ho'
    refine br_f (nI_ge (by omega) (by omega)) ⟨v0, nm_r p0 ⟨v1, nm_r p1 ⟨v2, nm_r p2 ?_⟩⟩⟩
    by_cases y0 : e (3 * k) = 8 + v
    · exact br_t (c0.mpr y0) (hyes (Or.inl y0))
    · refine br_f (fun q => y0 (c0.mp q)) ?_
      by_cases y1 : e (3 * k + 1) = 8 + v
      · exact br_t (c1.mpr y1) (hyes (Or.inr (Or.inl y1)))
      · refine br_f (fun q => y1 (c1.mp q)) ?_
        by_cases y2 : e (3 * k + 2) = 8 + v
        · exact br_t (c2.mpr y2) (hyes (Or.inr (Or.inr y2)))
        · refine br_f (fun q => y2 (c2.mp q)) (nm_r (nI_1 k) (hno (fun q => ?_)))
          unfold tj_oc at q
          omega
theorem tj_xallow {g : Nat → Int32} (I : tj_IX g xh oo pp ss gg si) {e : Nat → Nat} {np : Nat} (hP : tj_PL e pl) (hnp : np ≤ 4) {v c : Nat} (hv : v < 4) (hbd : tj_BD (tj_st e np) v c bo) {post : Int32 → Prop} (h : ∀ r, tj_BS r (tj_A g e np v c) → post r) : wpX_allowed post (xh, nI np, xv, xs, oo, pp, ss, gg, si, pl, vn, bo, ca, vc) (nI v) := by
  unfold wpX_allowed
  dsimp only
  refine ⟨np + 1, tj_allow6 I hP hnp hv hbd h np 0 255 (by omega) (tj_BS_congr tj_BS_255 (fun x hx => ?_))⟩
  exact (tj_A_t.mpr (fun k hk => by omega)).symm
end
end
section
/-! the join's loop: one rule a kind of step -/
def tj_op (d : Nat) : Int32 := if d = 0 then 0 else 1
section
variable {xh xp xv xs : Int32} {oo pp ss gg si pl vn bo ca vc : Nat → Int32}
theorem tj_jx {post : SX → Prop} {x1 x2 x4 : Int32} {n : Nat} (h : post (xh, xp, xv, xs, oo, pp, ss, gg, si, pl, vn, bo, ca, vc)) : wX_join_41 post x1 (n + 1) x2 0 x4 xh xp xv xs oo pp ss gg si pl vn bo ca vc :=
  br_c (fun _ => h) (fun _ => br_t rfl h)
theorem tj_j82 {post : SX → Prop} {J : Int32 → Int32 → Int32 → Int32 → Int32 → Int32 → Int32 → (Nat → Int32) → (Nat → Int32) → (Nat → Int32) → (Nat → Int32) → (Nat → Int32) → (Nat → Int32) → (Nat → Int32) → (Nat → Int32) → (Nat → Int32) → (Nat → Int32) → Prop} {x1 : Int32} {d st : Nat} (hd : d < 100) (h : J (nI d + (-1)) (tj_op d) (nI (st + 1)) xh xp xv xs oo pp ss gg si pl vn bo ca vc) : wX_join_82 post J x1 (nI d) (nI st) 1 xh xp xv xs oo pp ss gg si pl vn bo ca vc := by
  unfold wX_join_82
  refine nm_e (br_f tj_n10 ?_)
  rcases Nat.eq_zero_or_pos d with z | z
  · subst z
    exact br_t (by decide) (nm_r (nI_1 st) h)
  · obtain ⟨k, rfl⟩ : ∃ k, d = k + 1 := ⟨d - 1, by omega⟩
    have hn : ¬ nI (k + 1) + (-1) < 0 := by rw [pk_m1]; exact nI_pos (by omega)
    have ho : tj_op (k + 1) = 1 := if_neg (by omega)
    rw [ho] at h
    exact br_f hn (nm_r (nI_1 st) h)
theorem tj_jleaf {post : SX → Prop} {x1 : Int32} {n st : Nat} {p : Nat → Bool} {c : Nat} (hst : st < 10000) (hvn : tj_VN p vn) (hbd : tj_BD p 4 c bo)
    (hK : ∀ vc', (∀ w x, w < 4 → x < 8 → p w = true → vc' (8 * w + x) = if x = tj_dg c w then vc (8 * w + x) + 1 else vc (8 * w + x)) →
      ((x1 < 0 ∨ xs + 1 ≤ x1) → wX_join_41 post x1 n (nI (tj_cn p 4) + (-1)) (tj_op (tj_cn p 4)) (nI (st + 1)) xh xp (nI (tj_cn p 4)) (xs + 1) oo pp ss gg si pl vn bo ca vc') ∧
      (¬ x1 < 0 → ¬ xs + 1 ≤ x1 → wX_join_41 post x1 n (nI (tj_cn p 4) + (-1)) 0 (nI (st + 1)) xh xp (nI (tj_cn p 4)) (xs + 1) oo pp ss gg si pl vn bo ca vc')) :
    wX_join_41 post x1 (n + 1) (nI (tj_cn p 4)) 1 (nI st) xh xp (nI (tj_cn p 4)) xs oo pp ss gg si pl vn bo ca vc := by
  have hle := tj_cn_le p 4
  refine br_f (nI_ge (b := 10000) (by omega) (by decide)) (br_f tj_n10 (br_t rfl (tj_xcs hvn hbd (fun vc' hvc => ?_))))
  dsimp only
  by_cases y : xs + 1 ≤ x1
  · exact br_t y (tj_j82 (by omega) ((hK vc' hvc).1 (Or.inr y)))
  · refine br_f y ?_
    by_cases z : x1 < 0
    · have hz : ¬ 0 ≤ x1 := Int32.not_le.mpr z
      exact br_f hz (tj_j82 (by omega) ((hK vc' hvc).1 (Or.inl z)))
    · have hz : 0 ≤ x1 := Int32.not_lt.mp z
      refine br_t hz ?_
      unfold wX_join_82
      exact nm_e (br_t rfl (nm_r (nI_1 st) ((hK vc' hvc).2 z y)))
theorem tj_jback {post : SX → Prop} {x1 : Int32} {n st d nv v : Nat} (hst : st < 10000) (hd : d < nv) (hnv : nv ≤ 4) (hv : v < 4) (hvn : vn d = nI v) (hca : ca d = 0)
    (h : wX_join_41 post x1 n (nI d + (-1)) (tj_op d) (nI (st + 1)) xh xp (nI nv) xs oo pp ss gg si pl vn (upd bo v (-1)) ca vc) : wX_join_41 post x1 (n + 1) (nI d) 1 (nI st) xh xp (nI nv) xs oo pp ss gg si pl vn bo ca vc := by
  have hne : ¬ nI d = nI nv := fun q => by
    have := (nI_eq (by omega) (by omega)).mp q
    omega
  have hcd : (nI d).toNatClampNeg = d := nI_clamp (by omega)
  have hcv : (nI v).toNatClampNeg = v := nI_clamp (by omega)
  refine br_f (nI_ge (b := 10000) (by omega) (by decide)) (br_f tj_n10 (br_f hne ⟨vp_in_nI (by omega) (by decide), ?_⟩))
  rw [hcd]
  refine br_t hca ?_
  rw [hvn, hcv]
  refine ⟨vp_in_nI (by omega) (by decide), vp_in_nI (by omega) (by decide), nm_e (nm_e ?_)⟩
  rcases Nat.eq_zero_or_pos d with z | z
  · subst z
    exact br_t (by decide) (nm_r (nI_1 st) h)
  · obtain ⟨k, rfl⟩ : ∃ k, d = k + 1 := ⟨d - 1, by omega⟩
    have hn : ¬ nI (k + 1) + (-1) < 0 := by rw [pk_m1]; exact nI_pos (by omega)
    have ho : tj_op (k + 1) = 1 := if_neg (by omega)
    rw [ho] at h
    exact br_f hn (nm_r (nI_1 st) h)
theorem tj_jdown {g : Nat → Int32} (I : tj_IX g xh oo pp ss gg si) {e : Nat → Nat} {np : Nat} (hP : tj_PL e pl) (hnp : np ≤ 4) {post : SX → Prop} {x1 : Int32} {n st d nv v : Nat} {f : Nat → Bool} (hst : st < 10000) (hd : d < nv) (hnv : nv ≤ 4) (hv : v < 4) (hvn : vn d = nI v) (hb : tj_BS (ca d) f) (hca : ¬ ca d = 0)
    (h : ∀ y, y < 8 → f y = true → (∀ i, i < y → f i = false) →
      (d + 1 = nv → wX_join_41 post x1 n (nI (d + 1)) 1 (nI (st + 1)) xh (nI np) (nI nv) xs oo pp ss gg si pl vn (upd bo v (nI y)) (upd ca d (ca d &&& (((1 : Int32) <<< (nI y &&& 31)) ^^^ (-1)))) vc) ∧
      (d + 1 < nv → ∃ v2 c, v2 < 4 ∧ vn (d + 1) = nI v2 ∧ tj_BD (tj_st e np) v2 c (upd (upd bo v (nI y)) v2 (-1)) ∧
        ∀ r, tj_BS r (tj_A g e np v2 c) → wX_join_41 post x1 n (nI (d + 1)) 1 (nI (st + 1)) xh (nI np) (nI nv) xs oo pp ss gg si pl vn (upd (upd bo v (nI y)) v2 (-1)) (upd (upd ca d (ca d &&& (((1 : Int32) <<< (nI y &&& 31)) ^^^ (-1)))) (d + 1) r) vc)) :
    wX_join_41 post x1 (n + 1) (nI d) 1 (nI st) xh (nI np) (nI nv) xs oo pp ss gg si pl vn bo ca vc := by
  have hne : ¬ nI d = nI nv := fun q => by
    have := (nI_eq (by omega) (by omega)).mp q
    omega
  have hcd : (nI d).toNatClampNeg = d := nI_clamp (by omega)
  have hcv : (nI v).toNatClampNeg = v := nI_clamp (by omega)
  have hcd1 : (nI (d + 1)).toNatClampNeg = d + 1 := nI_clamp (by omega)
  have v5 : vp_in (nI d) 5 := vp_in_nI (by omega) (by decide)
  have v4 : vp_in (nI d) 4 := vp_in_nI (by omega) (by decide)
  refine br_f (nI_ge (b := 10000) (by omega) (by decide)) (br_f tj_n10 (br_f hne ⟨v5, ?_⟩))
  rw [hcd]
  refine br_f hca ⟨v5, tj_low hb hca (fun y hy hfy hmin => ⟨v5, v5, ?_⟩)⟩
  obtain ⟨h1, h2⟩ := h y hy hfy hmin
  rw [hvn, hcv]
  refine nm_e ⟨v4, vp_in_nI (by omega) (by decide), nm_e (nm_r (nI_1 d) ?_)⟩
  rcases Nat.lt_or_ge (d + 1) nv with z | z
  · obtain ⟨v2, c, hv2, hvn2, hbd, hr⟩ := h2 z
    refine br_f (nI_ge (by omega) (by omega)) ⟨vp_in_nI (by omega) (by decide), ?_⟩
    rw [hcd1, hvn2, nI_clamp (by omega : v2 < 2 ^ 31)]
    refine ⟨vp_in_nI (by omega) (by decide), nm_e ⟨vp_in_nI (by omega) (by decide), tj_xallow I hP hnp hv2 hbd (fun r hrb => ⟨vp_in_nI (by omega) (by decide), nm_e (nm_r (nI_1 st) (hr r hrb))⟩)⟩⟩
  · exact br_t (nI_le (by omega) (by omega)) (nm_r (nI_1 st) (h1 (by omega)))
end
end
section
/-! the join's search: a node of the search covers a block of codes -/
def tj_NS (x1 : Int32) (m : Nat) : Prop := x1 < 0 ∨ nI m ≤ x1
def tj_Tm : Nat → Nat
  | 0 => 1
  | r + 1 => 8 * (tj_Tm r + 1) + 1
theorem tj_Tm_s (r : Nat) : tj_Tm (r + 1) = 8 * (tj_Tm r + 1) + 1 := rfl
/-- numbers x .. x2 - 1 not allowed: no solution in their blocks -/
theorem tj_none_blk {g : Nat → Int32} {e : Nat → Nat} {np v c x x2 : Nat} (he : ∀ i, i < 12 → e i < 12) (hnp : np ≤ 4) (hv : v < 4) (hc : c % tj_z v = 0) (hx2 : x2 ≤ 8) (h : ∀ i, x ≤ i → i < x2 → tj_A g e np v c i = false) :
    ∀ i, c + x * tj_z (v + 1) ≤ i → i < c + x2 * tj_z (v + 1) → ¬ tj_SP g e np i := by
  intro i h1 h2 hS
  have hz := tj_z_pos (v + 1)
  obtain ⟨q, hq1, hq2, hq3, hq4⟩ : ∃ q, x ≤ q ∧ q < x2 ∧ c + q * tj_z (v + 1) ≤ i ∧ i < c + q * tj_z (v + 1) + tj_z (v + 1) := by
    have d1 := Nat.div_add_mod (i - c) (tj_z (v + 1))
    have d2 := Nat.mod_lt (i - c) hz
    rw [Nat.mul_comm] at d1
    refine ⟨(i - c) / tj_z (v + 1), (Nat.le_div_iff_mul_le hz).mpr (by omega), (Nat.div_lt_iff_lt_mul hz).mpr (by omega), by omega, by omega⟩
  have hA := tj_A_sound he hnp hv hc (by omega) hq3 hq4 hS
  rw [h q hq1 hq2] at hA
  exact absurd hA (by decide)
theorem tj_VC_none {g : Nat → Int32} {e : Nat → Nat} {np a b : Nat} {vc : Nat → Int32} (hab : a ≤ b) (h : ∀ i, a ≤ i → i < b → ¬ tj_SP g e np i) (hV : tj_VC g e np a vc) : tj_VC g e np b vc := by
  intro w x hw hx hs
  rw [(tj_none_all hab h).2 w x]
  exact hV w x hw hx hs
section
variable {xh xp xv xs : Int32} {oo pp ss gg si pl vn bo ca vc : Nat → Int32}
def tj_Ex (g : Nat → Int32) (e : Nat → Nat) (np : Nat) (post : SX → Prop) (x1 xh : Int32) (oo pp ss gg si pl vn : Nat → Int32) (d v c cE lim : Nat) (ca : Nat → Int32) : Prop :=
  ∀ n st bo' ca' vc', n + st = 10001 → st ≤ lim → tj_BD (tj_st e np) v c bo' → (∀ j, j < d → ca' j = ca j) → tj_VC g e np cE vc' → tj_NS x1 (tj_cn (tj_S g e np) cE) →
    wX_join_41 post x1 n (nI d + (-1)) (tj_op d) (nI st) xh (nI np) (nI (tj_cn (tj_st e np) 4)) (nI (tj_cn (tj_S g e np) cE)) oo pp ss gg si pl vn bo' ca' vc'
def tj_Nd (g : Nat → Int32) (e : Nat → Nat) (np : Nat) (post : SX → Prop) (x1 xh : Int32) (oo pp ss gg si pl vn : Nat → Int32) (r v : Nat) : Prop :=
  ∀ d c n st bo ca vc, d = tj_cn (tj_st e np) v → n + st = 10001 → st + tj_Tm r ≤ 9999 → c % tj_z v = 0 → c + tj_z v ≤ 4096 → (∀ w, w < 4 → tj_dg c w = 0 ∨ tj_st e np w = true) → tj_OK g e np v c →
    tj_BD (tj_st e np) v c bo → tj_VC g e np c vc → tj_NS x1 (tj_cn (tj_S g e np) c) →
    (∀ v', v ≤ v' → v' < 4 → tj_st e np v' = true → tj_cn (tj_st e np) v' = d → tj_BS (ca d) (tj_A g e np v' c)) →
    tj_Ex g e np post x1 xh oo pp ss gg si pl vn d v c (c + tj_z v) (st + tj_Tm r) ca →
    wX_join_41 post x1 n (nI d) 1 (nI st) xh (nI np) (nI (tj_cn (tj_st e np) 4)) (nI (tj_cn (tj_S g e np) c)) oo pp ss gg si pl vn bo ca vc
theorem tj_nd_leaf {g : Nat → Int32} {e : Nat → Nat} {np : Nat} (hP : tj_PL e pl) (hnp : np ≤ 4) (hvn : tj_VN (tj_st e np) vn) {post : SX → Prop} {x1 : Int32}
    (hstop : ∀ i bo' ca' vc', i < 4096 → tj_S g e np i = true → x1 = nI (tj_cn (tj_S g e np) i) → tj_BD (tj_st e np) 4 i bo' → post (xh, nI np, nI (tj_cn (tj_st e np) 4), nI (tj_cn (tj_S g e np) (i + 1)), oo, pp, ss, gg, si, pl, vn, bo', ca', vc')) :
    tj_Nd g e np post x1 xh oo pp ss gg si pl vn 0 4 := by
  intro d c n st bo ca vc hd hn hst hc hc4 hdg hO hbd hV hN hca hE
  have hT : tj_Tm 0 = 1 := rfl
  have hz : tj_z 4 = 1 := rfl
  rw [hT] at hst
  rw [hz] at hc4
  have hS : tj_S g e np c = true := tj_S_t.mpr (tj_OK_4 (fun i hi => (hP i hi).1) hnp hdg hO)
  have hcn := tj_cn_t hS
  have hle := tj_cn_le (tj_S g e np) c
  obtain ⟨m, rfl⟩ : ∃ m, n = m + 1 + 1 := ⟨n - 2, by omega⟩
  rw [hd]
  refine tj_jleaf (by omega) hvn hbd (fun vc' hvc => ⟨fun hx => ?_, fun h0 hx => ?_⟩)
  · rw [nI_1, ← hcn]
    rw [nI_1, ← hcn] at hx
    have := hE (m + 1) (st + 1) bo ca vc' (by omega) (by omega) hbd (fun _ _ => rfl) ?_ ?_
    · rw [hz, hd] at this
      exact this
    · rw [hz]
      intro w x hw hx8 hs
      rw [hvc w x hw hx8 hs, hV w x hw hx8 hs]
      unfold tj_nw
      rw [tj_cn_s, hS, Bool.true_and]
      by_cases y : x = tj_dg c w
      · rw [if_pos y, decide_eq_true y.symm, nI_1]; rfl
      · rw [if_neg y, decide_eq_false (fun q => y q.symm)]; rfl
    · rw [hz]
      exact hx
  · rw [nI_1, ← hcn]
    rw [nI_1, ← hcn] at hx
    refine tj_jx (hstop c bo ca vc' (by omega) hS ?_ hbd)
    rcases hN with z | z
    · exact absurd z h0
    · obtain ⟨j, hj, rfl⟩ := nI_of h0
      rw [nI_leI (by omega) hj] at hx z
      exact congrArg nI (by omega)
theorem tj_nd_skip {g : Nat → Int32} {e : Nat → Nat} {np : Nat} {post : SX → Prop} {x1 : Int32} {r v : Nat} (hv : v + (r + 1) = 4) (hs : tj_st e np v = false)
    (ih : tj_Nd g e np post x1 xh oo pp ss gg si pl vn r (v + 1)) : tj_Nd g e np post x1 xh oo pp ss gg si pl vn (r + 1) v := by
  intro d c n st bo ca vc hd hn hst hc hc4 hdg hO hbd hV hN hca hE
  have hv4 : v < 4 := by omega
  have hz := tj_z_s hv4
  have hzp := tj_z_pos (v + 1)
  have hT := tj_Tm_s r
  have hc' : c % tj_z (v + 1) = 0 := by
    have := tj_z_mod hv4 0 hc
    rw [Nat.zero_mul, Nat.add_zero] at this
    exact this
  have hBB : ∀ b : Nat → Int32, tj_BD (tj_st e np) v c b ↔ tj_BD (tj_st e np) (v + 1) c b := by
    intro b
    have hc : ∀ w, (w < v ∧ tj_st e np w = true) ↔ (w < v + 1 ∧ tj_st e np w = true) := by
      intro w
      constructor
      · exact fun q => ⟨by omega, q.2⟩
      · rintro ⟨q1, q2⟩
        refine ⟨?_, q2⟩
        by_cases y : w = v
        · rw [y, hs] at q2
          exact absurd q2 (by decide)
        · omega
    exact ⟨fun h w hw => (h w hw).trans (tj_ifc (hc w) _ _), fun h w hw => (h w hw).trans (tj_ifc (hc w).symm _ _)⟩
  have hno : ∀ i, c + tj_z (v + 1) ≤ i → i < c + tj_z v → ¬ tj_SP g e np i := by
    intro i h1 h2 hSP
    rcases hSP.1 v hv4 with q | q
    · exact tj_dg_rest hv4 hc h1 h2 q
    · rw [hs] at q
      exact absurd q (by decide)
  have hna := tj_none_all (g := g) (e := e) (np := np) (a := c + tj_z (v + 1)) (b := c + tj_z v) (by omega) hno
  refine ih d c n st bo ca vc (by rw [tj_cn_f hs]; exact hd) hn (by omega) hc' (by omega) hdg (tj_OK_n hs hO) ((hBB bo).mp hbd) hV hN (fun v' h1 h2 h3 h4 => hca v' (by omega) h2 h3 h4) ?_
  intro n' st' bo' ca' vc' a1 a2 a3 a4 a5 a6
  rw [← hna.1] at a6 ⊢
  exact hE n' st' bo' ca' vc' a1 (by omega) ((hBB bo').mpr a3) a4 (tj_VC_none (by omega) hno a5) a6
end
end
section
section
variable {xh xp xv xs : Int32} {oo pp ss gg si pl vn bo ca vc : Nat → Int32}
/-- variable v stands: its numbers from x on are still to be tried -/
theorem tj_mid {g : Nat → Int32} (I : tj_IX g xh oo pp ss gg si) {e : Nat → Nat} {np : Nat} (hP : tj_PL e pl) (hnp : np ≤ 4) (hvn : tj_VN (tj_st e np) vn) {post : SX → Prop} {x1 : Int32} {r v : Nat} (hv : v + (r + 1) = 4) (hs : tj_st e np v = true)
    (ih : tj_Nd g e np post x1 xh oo pp ss gg si pl vn r (v + 1)) {d c L : Nat} {ca0 : Nat → Int32} (hd : d = tj_cn (tj_st e np) v) (hc : c % tj_z v = 0) (hc4 : c + tj_z v ≤ 4096) (hdg : ∀ w, w < 4 → tj_dg c w = 0 ∨ tj_st e np w = true) (hO : tj_OK g e np v c) (hL : L ≤ 9999)
    (hE : tj_Ex g e np post x1 xh oo pp ss gg si pl vn d v c (c + tj_z v) L ca0) :
    ∀ m x n st bo ca vc, x ≤ 8 → 8 ≤ x + m → n + st = 10001 → st + m * (tj_Tm r + 1) + 1 ≤ L →
      (∀ w, w < 4 → ¬ w = v → bo w = if w < v ∧ tj_st e np w = true then nI (tj_dg c w) else -1) →
      tj_VC g e np (c + x * tj_z (v + 1)) vc → tj_NS x1 (tj_cn (tj_S g e np) (c + x * tj_z (v + 1))) →
      tj_BS (ca d) (fun i => tj_A g e np v c i && decide (x ≤ i)) → (∀ j, j < d → ca j = ca0 j) →
      wX_join_41 post x1 n (nI d) 1 (nI st) xh (nI np) (nI (tj_cn (tj_st e np) 4)) (nI (tj_cn (tj_S g e np) (c + x * tj_z (v + 1)))) oo pp ss gg si pl vn bo ca vc := by
  have hv4 : v < 4 := by omega
  have hz := tj_z_s hv4
  have hzp := tj_z_pos (v + 1)
  have he : ∀ i, i < 12 → e i < 12 := fun i hi => (hP i hi).1
  have hd4 : d < tj_cn (tj_st e np) 4 := by rw [hd]; exact tj_sd_lt hs hv4
  have h44 := tj_cn_le (tj_st e np) 4
  have hvd : vn d = nI v := by rw [hd]; exact hvn v hv4 hs
  have hd1 : tj_cn (tj_st e np) (v + 1) = d + 1 := by rw [tj_cn_t hs, hd]
  intro m
  induction m with
  | zero =>
    intro x n st bo ca vc hx8 hxm hn hst hbo hV hN hb hca
    obtain rfl : x = 8 := by omega
    have hca0 : ca d = 0 := (tj_BS_z hb).mpr (fun i hi => by
      show (tj_A g e np v c i && decide (8 ≤ i)) = false
      rw [decide_eq_false (by omega : ¬ 8 ≤ i), Bool.and_false])
    obtain ⟨k, rfl⟩ : ∃ k, n = k + 1 := ⟨n - 1, by omega⟩
    refine tj_jback (by omega) hd4 h44 hv4 hvd hca0 ?_
    rw [← hz] at hV hN ⊢
    refine hE k (st + 1) _ ca vc (by omega) (by omega) (fun w hw => ?_) hca hV hN
    by_cases y : w = v
    · rw [y, pk_us, if_neg (by omega)]
    · rw [pk_un y]; exact hbo w hw y
  | succ m ihm =>
    intro x n st bo ca vc hx8 hxm hn hst hbo hV hN hb hca
    rw [Nat.succ_mul] at hst
    generalize hmt : m * (tj_Tm r + 1) = mt at hst ihm
    obtain ⟨k, rfl⟩ : ∃ k, n = k + 1 := ⟨n - 1, by omega⟩
    by_cases hca0 : ca d = 0
    · have hnA : ∀ i, x ≤ i → i < 8 → tj_A g e np v c i = false := fun i h1 h2 => by
        have h := (tj_BS_z hb).mp hca0 i h2
        have h' : (tj_A g e np v c i && decide (x ≤ i)) = false := h
        rw [decide_eq_true h1, Bool.and_true] at h'
        exact h'
      have hxz : x * tj_z (v + 1) ≤ 8 * tj_z (v + 1) := Nat.mul_le_mul_right _ hx8
      have hno := tj_none_blk he hnp hv4 hc (Nat.le_refl 8) hnA
      have hna := tj_none_all (by omega) hno
      refine tj_jback (by omega) hd4 h44 hv4 hvd hca0 ?_
      have hV' := tj_VC_none (by omega) hno hV
      rw [← hna.1] at hN ⊢
      rw [← hz] at hV' hN ⊢
      refine hE k (st + 1) _ ca vc (by omega) (by omega) (fun w hw => ?_) hca hV' hN
      by_cases y : w = v
      · rw [y, pk_us, if_neg (by omega)]
      · rw [pk_un y]; exact hbo w hw y
    · refine tj_jdown I hP hnp (by omega) hd4 h44 hv4 hvd hb hca0 (fun y hy hfy hmin => ?_)
      have hfy' : (tj_A g e np v c y && decide (x ≤ y)) = true := hfy
      rw [Bool.and_eq_true, decide_eq_true_iff] at hfy'
      obtain ⟨hA, hxy⟩ := hfy'
      have hnA : ∀ i, x ≤ i → i < y → tj_A g e np v c i = false := fun i h1 h2 => by
        have h' : (tj_A g e np v c i && decide (x ≤ i)) = false := hmin i h2
        rw [decide_eq_true h1, Bool.and_true] at h'
        exact h'
      have hxz : x * tj_z (v + 1) ≤ y * tj_z (v + 1) := Nat.mul_le_mul_right _ hxy
      have hyz : (y + 1) * tj_z (v + 1) = y * tj_z (v + 1) + tj_z (v + 1) := Nat.succ_mul _ _
      have hno := tj_none_blk he hnp hv4 hc (by omega : y ≤ 8) hnA
      have hna := tj_none_all (by omega) hno
      have hV' := tj_VC_none (by omega) hno hV
      rw [← hna.1] at hN ⊢
      have hin := tj_z_in hv4 hy hc4
      have hdgc : ∀ w, w < 4 → tj_dg (c + y * tj_z (v + 1)) w = 0 ∨ tj_st e np w = true := fun w hw => by
        rcases Nat.lt_trichotomy w v with q | q | q
        · rw [tj_dg_below hv4 q hc hy (Nat.le_refl _) (by omega)]; exact hdg w hw
        · rw [q]; exact Or.inr hs
        · exact Or.inl (tj_dg_above (v := v + 1) (by omega) hw (tj_z_mod hv4 y hc))
      -- bound, one number deeper
      have hB1 : ∀ b : Nat → Int32, (∀ w, w < 4 → b w = if w = v then nI y else bo w) → tj_BD (tj_st e np) (v + 1) (c + y * tj_z (v + 1)) b := by
        intro b hb1 w hw
        rw [hb1 w hw]
        by_cases q : w = v
        · rw [if_pos q, q, if_pos ⟨by omega, hs⟩, tj_dg_at hv4 hc hy (Nat.le_refl _) (by omega)]
        · rw [if_neg q, hbo w hw q]
          by_cases q2 : w < v ∧ tj_st e np w = true
          · rw [if_pos q2, if_pos ⟨by omega, q2.2⟩, tj_dg_below hv4 q2.1 hc hy (Nat.le_refl _) (by omega)]
          · rw [if_neg q2, if_neg (fun q3 => q2 ⟨by omega, q3.2⟩)]
      -- what follows behind the child
      have hEx : ∀ ca2 : Nat → Int32, (∀ j, j < d → ca2 j = ca j) → ca2 d = (ca d &&& (((1 : Int32) <<< (nI y &&& 31)) ^^^ (-1))) → tj_Ex g e np post x1 xh oo pp ss gg si pl vn (d + 1) (v + 1) (c + y * tj_z (v + 1)) (c + y * tj_z (v + 1) + tj_z (v + 1)) (st + 1 + tj_Tm r) ca2 := by
        intro ca2 hc2 hc2d n' st' bo' ca' vc' a1 a2 a3 a4 a5 a6
        rw [pk_m1]
        have ho : tj_op (d + 1) = 1 := if_neg (by omega)
        rw [ho]
        rw [Nat.add_assoc, ← hyz] at a5 a6 ⊢
        refine ihm (y + 1) n' st' bo' ca' vc' (by omega) (by omega) a1 (by omega) (fun w hw q => ?_) a5 a6 ?_ (fun j hj => ?_)
        · rw [a3 w hw]
          by_cases q2 : w < v ∧ tj_st e np w = true
          · rw [if_pos q2, if_pos ⟨by omega, q2.2⟩, tj_dg_below hv4 q2.1 hc hy (Nat.le_refl _) (by omega)]
          · rw [if_neg q2, if_neg (fun q3 => q2 ⟨by omega, q3.2⟩)]
        · rw [a4 d (by omega), hc2d]
          refine tj_BS_congr (tj_BS_clr hb hy) (fun i hi => ?_)
          show ((tj_A g e np v c i && decide (x ≤ i)) && !decide (i = y)) = (tj_A g e np v c i && decide (y + 1 ≤ i))
          rcases Nat.lt_trichotomy i y with q | q | q
          · rw [show (tj_A g e np v c i && decide (x ≤ i)) = false from hmin i q, decide_eq_false (by omega : ¬ y + 1 ≤ i), Bool.and_false, Bool.false_and]
          · rw [decide_eq_true q, decide_eq_false (by omega : ¬ y + 1 ≤ i), Bool.and_false]
            simp
          · rw [decide_eq_false (by omega : ¬ i = y), decide_eq_true (by omega : y + 1 ≤ i), decide_eq_true (by omega : x ≤ i)]
            simp
        · rw [a4 j (by omega), hc2 j hj, hca j hj]
      refine ⟨fun hlast => ?_, fun hmore => ?_⟩
      · refine ih (d + 1) (c + y * tj_z (v + 1)) k (st + 1) _ _ vc hd1.symm (by omega) (by omega) (tj_z_mod hv4 y hc) hin hdgc (tj_OK_s hv4 hc hy hO hA) (hB1 _ (fun w hw => rfl)) hV' hN (fun v' h1 h2 h3 h4 => ?_) (hEx _ (fun j hj => pk_un (by omega)) pk_us)
        have := tj_sd_lt h3 h2
        omega
      · obtain ⟨v2, hv2, hs2, hd2⟩ := tj_sd_ex hmore
        have hvv : v < v2 := by
          rcases Nat.lt_or_ge v v2 with q | q
          · exact q
          · have := tj_cn_mono (tj_st e np) q
            omega
        have hb2 : ∀ w, w < 4 → upd (upd bo v (nI y)) v2 (-1) w = if w = v then nI y else bo w := fun w hw => by
          by_cases q : w = v2
          · rw [q, pk_us, if_neg (by omega), hbo v2 hv2 (by omega), if_neg (by omega)]
          · rw [pk_un q]; rfl
        have hB2 := hB1 _ hb2
        refine ⟨v2, c + y * tj_z (v + 1), hv2, by rw [← hd2]; exact hvn v2 hv2 hs2, fun w hw => ?_, fun q hq => ?_⟩
        · rw [hB2 w hw]
          refine tj_ifc ⟨fun z => ⟨by omega, z.2⟩, fun z => ⟨?_, z.2⟩⟩ _ _
          have h1 := tj_sd_lt z.2 z.1
          rcases Nat.lt_or_ge v w with u | u
          · have := tj_cn_mono (tj_st e np) (m := v + 1) (n := w) (by omega)
            omega
          · omega
        · refine ih (d + 1) (c + y * tj_z (v + 1)) k (st + 1) _ _ vc hd1.symm (by omega) (by omega) (tj_z_mod hv4 y hc) hin hdgc (tj_OK_s hv4 hc hy hO hA) hB2 hV' hN (fun v' h1 h2 h3 h4 => ?_) (hEx _ (fun j hj => ?_) ?_)
          · have hvv' : v' = v2 := tj_sd_inj h3 hs2 (by omega)
            rw [hvv', pk_us]
            exact hq
          · rw [pk_un (by omega), pk_un (by omega)]
          · rw [pk_un (by omega), pk_us]
theorem tj_nd {g : Nat → Int32} (I : tj_IX g xh oo pp ss gg si) {e : Nat → Nat} {np : Nat} (hP : tj_PL e pl) (hnp : np ≤ 4) (hvn : tj_VN (tj_st e np) vn) {post : SX → Prop} {x1 : Int32}
    (hstop : ∀ i bo' ca' vc', i < 4096 → tj_S g e np i = true → x1 = nI (tj_cn (tj_S g e np) i) → tj_BD (tj_st e np) 4 i bo' → post (xh, nI np, nI (tj_cn (tj_st e np) 4), nI (tj_cn (tj_S g e np) (i + 1)), oo, pp, ss, gg, si, pl, vn, bo', ca', vc')) :
    ∀ r v, v + r = 4 → tj_Nd g e np post x1 xh oo pp ss gg si pl vn r v := by
  intro r
  induction r with
  | zero =>
    intro v hv
    obtain rfl : v = 4 := by omega
    exact tj_nd_leaf hP hnp hvn hstop
  | succ r ihr =>
    intro v hv
    by_cases hs : tj_st e np v = true
    · intro d c n st bo ca vc hd hn hst hc hc4 hdg hO hbd hV hN hca hE
      have hT := tj_Tm_s r
      have h := tj_mid I hP hnp hvn hv hs (ihr (v + 1) (by omega)) hd hc hc4 hdg hO hst hE 8 0 n st bo ca vc (by omega) (by omega) hn (by omega) (fun w hw _ => hbd w hw)
      rw [Nat.zero_mul, Nat.add_zero] at h
      refine h hV hN (tj_BS_congr (hca v (Nat.le_refl _) (by omega) hs hd.symm) (fun i hi => ?_)) (fun _ _ => rfl)
      rw [decide_eq_true (Nat.zero_le i), Bool.and_true]
    · exact tj_nd_skip hv (tj_bf hs) (ihr (v + 1) (by omega))
theorem tj_xjoin {g : Nat → Int32} (I : tj_IX g xh oo pp ss gg si) {e : Nat → Nat} {np : Nat} (hP : tj_PL e pl) (hnp : np ≤ 4) {post : SX → Prop} {x1 : Int32}
    (hend : ∀ vn' bo' ca' vc', tj_VC g e np 4096 vc' → tj_NS x1 (tj_cn (tj_S g e np) 4096) → post (xh, nI np, nI (tj_cn (tj_st e np) 4), nI (tj_cn (tj_S g e np) 4096), oo, pp, ss, gg, si, pl, vn', bo', ca', vc'))
    (hstop : ∀ vn' i bo' ca' vc', i < 4096 → tj_S g e np i = true → x1 = nI (tj_cn (tj_S g e np) i) → tj_BD (tj_st e np) 4 i bo' → post (xh, nI np, nI (tj_cn (tj_st e np) 4), nI (tj_cn (tj_S g e np) (i + 1)), oo, pp, ss, gg, si, pl, vn', bo', ca', vc')) :
    wpX_join post (xh, nI np, xv, xs, oo, pp, ss, gg, si, pl, vn, bo, ca, vc) x1 := by
  have hN0 : tj_NS x1 0 := by
    by_cases z : x1 < 0
    · exact Or.inl z
    · exact Or.inr (Int32.not_lt.mp z)
  have h44 := tj_cn_le (tj_st e np) 4
  unfold wpX_join
  dsimp only
  refine tj_xprep hP hnp (fun vn' bo' vc' hvn hbo hvc => ?_)
  dsimp only
  have hV0 : tj_VC g e np 0 vc' := fun w x hw hx hs => by
    rw [hvc _ (by omega)]; rfl
  have hB0 : ∀ v, (∀ w, w < v → tj_st e np w = false) → tj_BD (tj_st e np) v 0 bo' := fun v hv w hw => by
    rw [hbo w hw, if_neg]
    rintro ⟨q1, q2⟩
    rw [hv w q1] at q2
    exact absurd q2 (by decide)
  have hroot : tj_OK g e np 0 0 → ∀ ca', (∀ v', v' < 4 → tj_st e np v' = true → tj_cn (tj_st e np) v' = 0 → tj_BS (ca' 0) (tj_A g e np v' 0)) → ∃ n41 : Nat, wX_join_41 post x1 n41 0 1 0 xh (nI np) (nI (tj_cn (tj_st e np) 4)) 0 oo pp ss gg si pl vn' bo' ca' vc' := by
    intro hO ca' hca
    refine ⟨10001, ?_⟩
    refine tj_nd I hP hnp hvn (hstop vn') 4 0 rfl 0 0 10001 0 bo' ca' vc' rfl rfl (by decide) rfl (Nat.le_refl _) (fun w hw => Or.inl (tj_dg_above (v := 0) (by omega) hw rfl)) hO (hB0 0 (fun w hw => by omega)) hV0 hN0 (fun v' _ h2 h3 h4 => hca v' h2 h3 h4) ?_
    intro n st bo2 ca2 vc2 a1 a2 a3 a4 a5 a6
    have hT : tj_Tm 4 = 9361 := rfl
    obtain ⟨k, rfl⟩ : ∃ k, n = k + 1 := ⟨n - 1, by omega⟩
    exact tj_jx (hend vn' bo2 ca2 vc2 a5 a6)
  refine tj_xground I hP hnp (fun hO => ?_) (fun hO => ?_)
  · refine br_f tj_n10 ?_
    rcases Nat.eq_zero_or_pos (tj_cn (tj_st e np) 4) with z | z
    · refine br_t (by rw [z]; decide) (hroot hO ca (fun v' h1 h2 h3 => ?_))
      have := tj_sd_lt h2 h1
      omega
    · obtain ⟨v2, hv2, hs2, hd2⟩ := tj_sd_ex z
      have hvn2 : vn' 0 = nI v2 := by rw [← hd2]; exact hvn v2 hv2 hs2
      refine br_f (nI_nle z (by omega)) ?_
      rw [hvn2]
      have hB2 := hB0 v2 (fun w hw => tj_bf (fun q => by
        have := tj_sd_lt q hw
        omega))
      refine tj_xallow I hP hnp hv2 hB2 (fun r hr => nm_e (hroot hO _ (fun v' h1 h2 h3 => ?_)))
      have hvv' : v' = v2 := tj_sd_inj h2 hs2 (by omega)
      rw [hvv', pk_us]
      exact hr
  · refine br_t rfl ⟨1, tj_jx ?_⟩
    have hno : ∀ i, 0 ≤ i → i < 4096 → ¬ tj_SP g e np i := fun i _ _ q => hO (tj_OK_0 q)
    have hna := tj_none_all (g := g) (e := e) (np := np) (Nat.zero_le 4096) hno
    have hp := hend vn' bo' ca vc' (tj_VC_none (by omega) hno hV0) (by rw [hna.1]; exact hN0)
    rw [hna.1] at hp
    exact hp
end
end
section
/-! the reference's walks -/
theorem tj_out1 {post : Int32 → Prop} {x : Int32} (hq : x < 0 ∨ (¬ x < 0 ∧ 7 < x)) (h : post 1) : wpY_outside post x := by
  rcases hq with z | ⟨z, y⟩
  · exact br_t z h
  · exact br_f z (br_f (Int32.not_le.mpr y) h)
theorem tj_out0 {post : Int32 → Prop} {j : Nat} (hj : j < 8) (h : post 0) : wpY_outside post (nI j) :=
  br_f (nI_pos (by omega)) (br_t (nI_le (b := 7) (by omega) (by decide)) h)
theorem tj_agr {post : Int32 → Prop} {x : Int32} {n : Nat} (hn : n < 8) (h : post (nI (tj_ag (tj_q x) n).toNat)) : wpY_agrees post x (nI n) := by
  unfold wpY_agrees
  rcases tj_q_c x with ⟨qa, ha⟩ | ⟨i, hi, rfl⟩
  · rw [qa] at h
    exact tj_out1 ha (br_f tj_n10 h)
  · rw [tj_q_nI hi, tj_ag_lt hi] at h
    refine tj_out0 hi (br_t rfl ?_)
    by_cases z : i = n
    · rw [decide_eq_true z] at h
      exact br_t (by rw [z]) h
    · rw [decide_eq_false z] at h
      exact br_f (fun q => z ((nI_eq (by omega) (by omega)).mp q)) h
theorem tj_i64 (s p o : Nat) : (64 * nI s + 8 * nI p) + nI o = nI (64 * s + 8 * p + o) := by
  rw [show (64 : Int32) = nI 64 from rfl, show (8 : Int32) = nI 8 from rfl, pk_mul, pk_mul, nI_add, nI_add]
section
variable {yp : Int32} {fa pl tr : Nat → Int32}
theorem tj_held4 {post : Int32 → Prop} (hp : post (nI (tj_cn (tj_f fa) 512))) : ∀ d j, j + d = 512 → wY_held_4 post yp fa pl tr (d + 1) (nI (tj_cn (tj_f fa) j)) (nI j) := by
  intro d
  induction d with
  | zero =>
    intro j hj
    obtain rfl : j = 512 := by omega
    exact br_t (nI_le (a := 512) (by omega) (by omega)) hp
  | succ d ih =>
    intro j hj
    refine br_f (nI_ge (b := 512) (by omega) (by decide)) ⟨vp_in_nI (by omega) (by decide), ?_⟩
    rw [nI_clamp (by omega)]
    have h := ih (j + 1) (by omega)
    by_cases z : fa j = 0
    · have hf : tj_f fa j = false := by unfold tj_f; rw [z]; rfl
      rw [tj_cn_f hf] at h
      exact br_t z (nm_r (nI_1 j) h)
    · have hf : tj_f fa j = true := by unfold tj_f; rw [decide_eq_false z]; rfl
      rw [tj_cn_t hf] at h
      exact br_f z (nm_r (nI_1 _) (nm_r (nI_1 j) h))
theorem tj_yheld {post : Int32 → Prop} (hp : post (nI (tj_C fa 8 8 8))) : wpY_held post (yp, fa, pl, tr) := by
  rw [tj_C_all] at hp
  unfold wpY_held
  dsimp only
  exact ⟨512 + 1, tj_held4 hp 512 0 (by omega)⟩
theorem tj_yhas {post : Int32 → Prop} (a b c : Int32) (h : post (nI (tj_hv fa a b c))) : wpY_has post (yp, fa, pl, tr) a b c := by
  unfold wpY_has
  dsimp only
  rcases tj_q_c a with ⟨qa, ha⟩ | ⟨i, hi, rfl⟩
  · rw [tj_hv_0 (Or.inl qa)] at h
    exact tj_out1 ha (br_f tj_n10 h)
  · rcases tj_q_c b with ⟨qb, hb⟩ | ⟨j, hj, rfl⟩
    · rw [tj_hv_0 (Or.inr (Or.inl qb))] at h
      exact tj_out0 hi (br_t rfl (tj_out1 hb (br_f tj_n10 h)))
    · rcases tj_q_c c with ⟨qc, hc⟩ | ⟨l, hl, rfl⟩
      · rw [tj_hv_0 (Or.inr (Or.inr qc))] at h
        exact tj_out0 hi (br_t rfl (tj_out0 hj (br_t rfl (tj_out1 hc (br_f tj_n10 h)))))
      · rw [tj_hv_1 hi hj hl] at h
        refine tj_out0 hi (br_t rfl (tj_out0 hj (br_t rfl (tj_out0 hl (br_t rfl ?_)))))
        rw [tj_i64, nI_clamp (by omega)]
        refine ⟨vp_in_nI (by omega) (by decide), ?_⟩
        by_cases z : fa (64 * i + 8 * j + l) = 0
        · have hf : tj_f fa (64 * i + 8 * j + l) = false := by unfold tj_f; rw [z]; rfl
          rw [hf] at h
          exact br_t z h
        · have hf : tj_f fa (64 * i + 8 * j + l) = true := by unfold tj_f; rw [decide_eq_false z]; rfl
          rw [hf] at h
          exact br_f z h
theorem tj_ycount6 {x1 x2 x3 : Int32} {post : Int32 → Prop} (hp : post (nI (tj_C fa (tj_q x1) (tj_q x2) (tj_q x3)))) :
    ∀ d j, j + d = 512 → wY_count_6 post x1 x2 x3 yp fa pl tr (d + 1) (nI (tj_cn (tj_hit fa (tj_q x1) (tj_q x2) (tj_q x3)) j)) (nI j) := by
  intro d
  induction d with
  | zero =>
    intro j hj
    obtain rfl : j = 512 := by omega
    exact br_t (nI_le (a := 512) (by omega) (by omega)) hp
  | succ d ih =>
    intro j hj
    have e1 : nI j / 64 = nI (j / 64) := pk_div (a := j) (d := 64) (by omega) (by decide) (by decide)
    have e2 : nI j / 8 = nI (j / 8) := pk_div (a := j) (d := 8) (by omega) (by decide) (by decide)
    have e3 : nI (j / 8) - nI (j / 8) / 8 * 8 = nI (j / 8 % 8) := pk_rem (a := j / 8) (d := 8) (by omega) (by decide) (by decide)
    have e4 : nI j - nI j / 8 * 8 = nI (j % 8) := pk_rem (a := j) (d := 8) (by omega) (by decide) (by decide)
    refine br_f (nI_ge (b := 512) (by omega) (by decide)) ⟨vp_in_nI (by omega) (by decide), ?_⟩
    rw [e4, e2, e3, e1, nI_clamp (by omega)]
    have h := ih (j + 1) (by omega)
    have hh : tj_hit fa (tj_q x1) (tj_q x2) (tj_q x3) j = (tj_f fa j && tj_ag (tj_q x1) (j / 64) && tj_ag (tj_q x2) (j / 8 % 8) && tj_ag (tj_q x3) (j % 8)) := rfl
    by_cases z : fa j = 0
    · have hf : tj_f fa j = false := by unfold tj_f; rw [z]; rfl
      rw [hf, Bool.false_and, Bool.false_and, Bool.false_and] at hh
      rw [tj_cn_f hh] at h
      exact br_t z (nm_r (nI_1 j) h)
    · have hf : tj_f fa j = true := by unfold tj_f; rw [decide_eq_false z]; rfl
      rw [hf, Bool.true_and] at hh
      refine br_f z ⟨by decide, tj_agr (by omega) ?_⟩
      by_cases y1 : tj_ag (tj_q x1) (j / 64) = true
      · rw [y1, Bool.true_and] at hh
        rw [y1]
        refine br_f tj_n10 ⟨by decide, by decide, tj_agr (by omega) ?_⟩
        by_cases y2 : tj_ag (tj_q x2) (j / 8 % 8) = true
        · rw [y2, Bool.true_and] at hh
          rw [y2]
          refine br_f tj_n10 ⟨by decide, tj_agr (by omega) ?_⟩
          by_cases y3 : tj_ag (tj_q x3) (j % 8) = true
          · rw [y3] at hh
            rw [y3]
            rw [tj_cn_t hh] at h
            exact br_f tj_n10 (nm_r (nI_1 _) (nm_r (nI_1 j) h))
          · rw [tj_bf y3] at hh
            rw [tj_bf y3]
            rw [tj_cn_f hh] at h
            exact br_t rfl (nm_r (nI_1 j) h)
        · rw [tj_bf y2, Bool.false_and] at hh
          rw [tj_bf y2]
          rw [tj_cn_f hh] at h
          exact br_t rfl (nm_r (nI_1 j) h)
      · rw [tj_bf y1, Bool.false_and, Bool.false_and] at hh
        rw [tj_bf y1]
        rw [tj_cn_f hh] at h
        exact br_t rfl (nm_r (nI_1 j) h)
theorem tj_ycount {x1 x2 x3 : Int32} {post : Int32 → Prop} (hp : post (nI (tj_C fa (tj_q x1) (tj_q x2) (tj_q x3)))) : wpY_count post (yp, fa, pl, tr) x1 x2 x3 := by
  unfold wpY_count
  dsimp only
  exact ⟨512 + 1, tj_ycount6 hp 512 0 (by omega)⟩
theorem tj_ystands2 {e : Nat → Nat} {np v : Nat} (hP : tj_PL e pl) (hnp : np ≤ 4) (hv : v < 4) {post : Int32 → Prop} (h1 : tj_st e np v = true → post 1) (h0 : tj_st e np v = false → post 0) :
    ∀ d j, j + d = 3 * np → (∀ i, i < j → ¬ e i = 8 + v) → wY_stands_2 post (nI v) (nI np) fa pl tr (d + 1) (nI j) := by
  intro d
  induction d with
  | zero =>
    intro j hj hn
    refine br_t (by rw [tj_i3]; exact nI_le (by omega) (by omega)) (h0 (tj_bf (fun z => ?_)))
    obtain ⟨k, hk, hek⟩ := tj_st_iff.mp z
    exact hn k (by omega) hek
  | succ d ih =>
    intro j hj hn
    refine br_f (by rw [tj_i3]; exact nI_ge (by omega) (by omega)) ⟨vp_in_nI (by omega) (by decide), ?_⟩
    have hc := tj_pc_v (e j) (hP j (by omega)).1 v hv
    rw [nI_clamp (by omega), (hP j (by omega)).2]
    by_cases z : e j = 8 + v
    · exact br_t (hc.mpr z) (h1 (tj_st_iff.mpr ⟨j, by omega, z⟩))
    · refine br_f (fun q => z (hc.mp q)) (nm_r (nI_1 j) (ih (j + 1) (by omega) (fun i hi => ?_)))
      rcases Nat.lt_or_ge i j with y | y
      · exact hn i y
      · obtain rfl : i = j := by omega
        exact z
theorem tj_ystands {e : Nat → Nat} {np v : Nat} (hP : tj_PL e pl) (hnp : np ≤ 4) (hv : v < 4) {post : Int32 → Prop} (h1 : tj_st e np v = true → post 1) (h0 : tj_st e np v = false → post 0) : wpY_stands post (nI np, fa, pl, tr) (nI v) := by
  unfold wpY_stands
  dsimp only
  exact ⟨3 * np + 1, tj_ystands2 hP hnp hv h1 h0 (3 * np) 0 (by omega) (fun i hi => by omega)⟩
theorem tj_yfilled {e : Nat → Nat} (hP : tj_PL e pl) {n i : Nat} (hi : i < 12) (htr : ∀ w, w < 4 → tr w = nI (tj_dg n w)) {post : Int32 → Prop} (h : post (nI (tj_vl n (e i)))) : wpY_filled post (yp, fa, pl, tr) (nI i) := by
  unfold wpY_filled
  dsimp only
  have hm := (hP i hi).1
  have hn := tj_pc_neg (e i) hm
  have vi : vp_in (nI i) 12 := vp_in_nI hi (by decide)
  rw [nI_clamp (by omega), (hP i hi).2]
  refine ⟨vi, ?_⟩
  unfold tj_vl at h
  by_cases z : e i < 8
  · rw [if_pos z] at h
    rw [tj_pc_lt z] at hn ⊢
    exact br_f (fun q => by have := hn.mp q; omega) ⟨vi, h⟩
  · rw [if_neg z] at h
    rw [tj_pc_i (e i) hm (by omega), nI_clamp (by omega), htr _ (by omega)]
    exact br_t (hn.mpr (by omega)) ⟨vi, vp_in_nI (by omega) (by decide), h⟩
theorem tj_ysolves51 {e : Nat → Nat} {np n : Nat} (hP : tj_PL e pl) (hnp : np ≤ 4) (htr : ∀ w, w < 4 → tr w = nI (tj_dg n w)) {post : Int32 → SY → Prop}
    (h1 : (∀ k, k < np → tj_ok fa e n k = true) → post 1 (nI np, fa, pl, tr)) (h0 : (¬ ∀ k, k < np → tj_ok fa e n k = true) → post 0 (nI np, fa, pl, tr)) :
    ∀ d k, k + d = np → (∀ k', k' < k → tj_ok fa e n k' = true) → wY_solves_51 post (nI np) fa pl tr (d + 1) (nI k) := by
  intro d
  induction d with
  | zero =>
    intro k hk hO
    obtain rfl : k = np := by omega
    exact br_t (nI_le (by omega) (by omega)) (h1 hO)
  | succ d ih =>
    intro k hk hO
    refine br_f (nI_ge (by omega) (by omega)) ?_
    rw [tj_i32, tj_i31, tj_i3]
    refine tj_yfilled hP (by omega) htr (tj_yfilled hP (by omega) htr (tj_yfilled hP (by omega) htr ?_))
    have l0 := tj_vl_lt n (e (3 * k))
    have l1 := tj_vl_lt n (e (3 * k + 1))
    have l2 := tj_vl_lt n (e (3 * k + 2))
    rw [tj_i64, nI_clamp (by omega)]
    refine ⟨vp_in_nI (by omega) (by decide), ?_⟩
    by_cases z : fa (64 * tj_vl n (e (3 * k)) + 8 * tj_vl n (e (3 * k + 1)) + tj_vl n (e (3 * k + 2))) = 0
    · have hf : tj_ok fa e n k = false := by unfold tj_ok tj_f; rw [z]; rfl
      refine br_t z (h0 (fun q => ?_))
      rw [q k (by omega)] at hf
      exact absurd hf (by decide)
    · have hf : tj_ok fa e n k = true := by unfold tj_ok tj_f; rw [decide_eq_false z]; rfl
      refine br_f z (nm_r (nI_1 k) (ih (k + 1) (by omega) (fun k' hk' => ?_)))
      rcases Nat.lt_or_ge k' k with y | y
      · exact hO k' y
      · obtain rfl : k' = k := by omega
        exact hf
theorem tj_ydig {n v : Nat} (hn : n < 4096) (hv : v < 4) : (nI n >>> ((9 - 3 * nI v) &&& 31)) &&& 7 = nI (tj_dg n v) := by
  rcases (by omega : v = 0 ∨ v = 1 ∨ v = 2 ∨ v = 3) with rfl | rfl | rfl | rfl
  · rw [pk_shrN (by omega) _ 9 (by decide), pk_andN (by omega) 3 (by decide)]; rfl
  · rw [pk_shrN (by omega) _ 6 (by decide), pk_andN (by omega) 3 (by decide)]; rfl
  · rw [pk_shrN (by omega) _ 3 (by decide), pk_andN (by omega) 3 (by decide)]; rfl
  · rw [pk_shrN (by omega) _ 0 (by decide), pk_andN (by omega) 3 (by decide)]; rfl
theorem tj_ysolves2 {e : Nat → Nat} {np n : Nat} (hP : tj_PL e pl) (hnp : np ≤ 4) (hn : n < 4096) {post : Int32 → SY → Prop}
    (hK : ∀ tr', (tj_S fa e np n = true → ∀ w, w < 4 → tr' w = nI (tj_dg n w)) → post (nI (tj_S fa e np n).toNat) (nI np, fa, pl, tr')) :
    ∀ d v tr, v + d = 4 → (∀ w, w < v → tr w = nI (tj_dg n w)) → (∀ w, w < v → tj_dg n w = 0 ∨ tj_st e np w = true) → wY_solves_2 post (nI n) (nI np) (d + 1) (nI v) fa pl tr := by
  intro d
  induction d with
  | zero =>
    intro v tr hv htr hdg
    obtain rfl : v = 4 := by omega
    have h := hK tr (fun _ => htr)
    refine br_t (nI_le (a := 4) (by omega) (by omega)) ⟨np + 1, tj_ysolves51 hP hnp htr (fun hall => ?_) (fun hall => ?_) np 0 (by omega) (fun k hk => by omega)⟩
    · rw [tj_S_t.mpr ⟨hdg, hall⟩] at h
      exact h
    · rw [tj_S_f (fun q => hall q.2)] at h
      exact h
  | succ d ih =>
    intro v tr hv htr hdg
    have vi : vp_in (nI v) 4 := vp_in_nI (by omega) (by decide)
    have hl := tj_dg_lt n v
    have htr' : ∀ w, w < v + 1 → upd tr v (nI (tj_dg n v)) w = nI (tj_dg n w) := fun w hw => by
      by_cases z : w = v
      · rw [z, pk_us]
      · rw [pk_un z]; exact htr w (by omega)
    have hnext : (tj_dg n v = 0 ∨ tj_st e np v = true) → wY_solves_2 post (nI n) (nI np) (d + 1) (nI (v + 1)) fa pl (upd tr v (nI (tj_dg n v))) := fun q =>
      ih (v + 1) _ (by omega) htr' (fun w hw => by
        by_cases z : w = v
        · rw [z]; exact q
        · exact hdg w (by omega))
    refine br_f (nI_ge (b := 4) (by omega) (by decide)) ⟨vi, nm_r (e' := upd tr v (nI (tj_dg n v))) (by rw [nI_clamp (by omega), tj_ydig hn (by omega)]) ⟨vi, ?_⟩⟩
    rw [nI_clamp (by omega), pk_us]
    by_cases z : tj_dg n v = 0
    · exact br_t (by rw [z]; decide) (nm_r (nI_1 v) (hnext (Or.inl z)))
    · refine br_f (nI_nle (by omega) (by omega)) (tj_ystands hP hnp (by omega) (fun hs => ?_) (fun hs => ?_))
      · exact br_f tj_n10 (nm_r (nI_1 v) (hnext (Or.inr hs)))
      · have hS : tj_S fa e np n = false := tj_S_f (fun q => by
          rcases q.1 v (by omega) with y | y
          · exact z y
          · rw [hs] at y
            exact absurd y (by decide))
        have h := hK (upd tr v (nI (tj_dg n v))) (fun q => by rw [hS] at q; exact absurd q (by decide))
        rw [hS] at h
        exact br_t rfl h
theorem tj_ysolves {e : Nat → Nat} {np n : Nat} (hP : tj_PL e pl) (hnp : np ≤ 4) (hn : n < 4096) {post : Int32 → SY → Prop}
    (hK : ∀ tr', (tj_S fa e np n = true → ∀ w, w < 4 → tr' w = nI (tj_dg n w)) → post (nI (tj_S fa e np n).toNat) (nI np, fa, pl, tr')) : wpY_solves post (nI np, fa, pl, tr) (nI n) := by
  unfold wpY_solves
  dsimp only
  exact ⟨5, tj_ysolves2 hP hnp hn hK 4 0 tr rfl (fun w hw => by omega) (fun w hw => by omega)⟩
theorem tj_ysolutions {e : Nat → Nat} {np : Nat} (hP : tj_PL e pl) (hnp : np ≤ 4) {post : Int32 → SY → Prop} (hp : ∀ tr', post (nI (tj_cn (tj_S fa e np) 4096)) (nI np, fa, pl, tr')) : wpY_solutions post (nI np, fa, pl, tr) := by
  have L : ∀ d n tr, n + d = 4096 → wY_solutions_4 post (d + 1) (nI (tj_cn (tj_S fa e np) n)) (nI n) (nI np) fa pl tr := by
    intro d
    induction d with
    | zero =>
      intro n tr hn
      obtain rfl : n = 4096 := by omega
      exact br_t (nI_le (a := 4096) (by omega) (by omega)) (hp tr)
    | succ d ih =>
      intro n tr hn
      refine br_f (nI_ge (b := 4096) (by omega) (by decide)) (tj_ysolves hP hnp (by omega) (fun tr' htr => ?_))
      dsimp only
      have h := ih (n + 1) tr' (by omega)
      by_cases z : tj_S fa e np n = true
      · rw [tj_cn_t z] at h
        rw [z]
        exact br_f tj_n10 (nm_r (nI_1 _) (nm_r (nI_1 n) h))
      · rw [tj_cn_f (tj_bf z)] at h
        rw [tj_bf z]
        exact br_t rfl (nm_r (nI_1 n) h)
  unfold wpY_solutions
  dsimp only
  exact ⟨4096 + 1, L 4096 0 tr (by omega)⟩
theorem tj_ymiss {e : Nat → Nat} {np v : Nat} (hP : tj_PL e pl) (hnp : np ≤ 4) (hv : v < 4) {post : Int32 → Prop} (h1 : tj_st e np v = true → post 0) (h0 : tj_st e np v = false → post 1) : wpY_missing post (nI np, fa, pl, tr) ((-1) - nI v) := by
  have hb := tj_vin v hv
  unfold wpY_missing
  dsimp only
  refine br_f hb.1 (br_f hb.2.2.1 ?_)
  rw [hb.2.2.2]
  exact tj_ystands hP hnp hv (fun hs => br_f tj_n10 (h1 hs)) (fun hs => br_t rfl (h0 hs))
theorem tj_ymiss1 {post : Int32 → Prop} {x : Int32} (hx : x < -4 ∨ (¬ x < -4 ∧ -1 < x)) (h : post 1) : wpY_missing post (yp, fa, pl, tr) x := by
  unfold wpY_missing
  dsimp only
  rcases hx with z | ⟨z, y⟩
  · exact br_t z h
  · exact br_f z (br_t y h)
/-- solution: found at code i, or not at all -/
theorem tj_ysol15 {e : Nat → Nat} {np w : Nat} (hP : tj_PL e pl) (hnp : np ≤ 4) (hw : w < 4) {x1 : Int32} {post : Int32 → SY → Prop} (m : Nat) (hm : m ≤ 4096)
    (hno : ∀ i, i < m → tj_S fa e np i = true → ¬ nI (tj_cn (tj_S fa e np) i) = x1)
    (hend : m = 4096 → ∀ tr', post (-1) (nI np, fa, pl, tr'))
    (hfnd : m < 4096 → tj_S fa e np m = true ∧ nI (tj_cn (tj_S fa e np) m) = x1 ∧ ∀ tr', post (nI (tj_dg m w)) (nI np, fa, pl, tr')) :
    ∀ d n tr, n + d = m → wY_solution_15 post x1 ((-1) - nI w) (d + 1) (nI (tj_cn (tj_S fa e np) n)) (nI n) (nI np) fa pl tr := by
  have hb := tj_vin w hw
  intro d
  induction d with
  | zero =>
    intro n tr hn
    obtain rfl : n = m := by omega
    rcases Nat.lt_or_ge n 4096 with y | y
    · obtain ⟨f1, f2, f3⟩ := hfnd y
      refine br_f (nI_ge (b := 4096) (by omega) (by decide)) (tj_ysolves hP hnp (by omega) (fun tr' htr => ?_))
      dsimp only
      rw [f1, hb.2.2.2, nI_clamp (by omega), htr f1 w hw]
      exact br_f tj_n10 (br_t f2 ⟨vp_in_nI hw (by decide), f3 tr'⟩)
    · obtain rfl : n = 4096 := by omega
      exact br_t (nI_le (a := 4096) (by omega) (by omega)) (hend rfl tr)
  | succ d ih =>
    intro n tr hn
    refine br_f (nI_ge (b := 4096) (by omega) (by decide)) (tj_ysolves hP hnp (by omega) (fun tr' htr => ?_))
    dsimp only
    have h := ih (n + 1) tr' (by omega)
    by_cases z : tj_S fa e np n = true
    · rw [tj_cn_t z] at h
      rw [z]
      exact br_f tj_n10 (br_f (hno n (by omega) z) (nm_r (nI_1 _) (nm_r (nI_1 n) h)))
    · rw [tj_cn_f (tj_bf z)] at h
      rw [tj_bf z]
      exact br_t rfl (nm_r (nI_1 n) h)
noncomputable def tj_nv (g : Nat → Int32) (e : Nat → Nat) (np w : Nat) (x : Int32) (n : Nat) : Nat := tj_cn (fun i => tj_S g e np i && decide (nI (tj_dg i w) = x)) n
theorem tj_nv_in (g : Nat → Int32) (e : Nat → Nat) (np w : Nat) {x : Nat} (hx : x < 8) (n : Nat) : tj_nv g e np w (nI x) n = tj_nw g e np w x n := by
  refine tj_cn_congr (fun i _ => ?_)
  have hl := tj_dg_lt i w
  rw [decide_eq_decide.mpr (nI_eq (a := tj_dg i w) (b := x) (by omega) (by omega))]
theorem tj_nv_out (g : Nat → Int32) (e : Nat → Nat) (np w : Nat) {x : Int32} (hx : x < 0 ∨ (¬ x < 0 ∧ 7 < x)) (n : Nat) : tj_nv g e np w x n = 0 := by
  refine tj_cn_none (a := 0) (Nat.zero_le n) (fun i _ _ => ?_)
  have hl := tj_dg_lt i w
  rw [decide_eq_false, Bool.and_false]
  intro q
  rw [← q] at hx
  rcases hx with z | ⟨_, z⟩
  · exact nI_pos (by omega) z
  · exact nI_nlt (a := 7) (b := tj_dg i w) (by omega) (by decide) z
theorem tj_ywith {e : Nat → Nat} {np w : Nat} (hP : tj_PL e pl) (hnp : np ≤ 4) (hw : w < 4) (hs : tj_st e np w = true) {x : Int32} {post : Int32 → SY → Prop} (hp : ∀ tr', post (nI (tj_nv fa e np w x 4096)) (nI np, fa, pl, tr')) : wpY_with post (nI np, fa, pl, tr) ((-1) - nI w) x := by
  have hb := tj_vin w hw
  have L : ∀ d n tr, n + d = 4096 → wY_with_15 post ((-1) - nI w) x (d + 1) (nI (tj_nv fa e np w x n)) (nI n) (nI np) fa pl tr := by
    intro d
    induction d with
    | zero =>
      intro n tr hn
      obtain rfl : n = 4096 := by omega
      exact br_t (nI_le (a := 4096) (by omega) (by omega)) (hp tr)
    | succ d ih =>
      intro n tr hn
      refine br_f (nI_ge (b := 4096) (by omega) (by decide)) (tj_ysolves hP hnp (by omega) (fun tr' htr => ?_))
      dsimp only
      have h := ih (n + 1) tr' (by omega)
      have hc : tj_nv fa e np w x (n + 1) = tj_nv fa e np w x n + (tj_S fa e np n && decide (nI (tj_dg n w) = x)).toNat := rfl
      by_cases z : tj_S fa e np n = true
      · rw [z, Bool.true_and] at hc
        rw [z, hb.2.2.2, nI_clamp (by omega), htr z w hw]
        refine br_f tj_n10 ⟨vp_in_nI hw (by decide), ?_⟩
        by_cases y : nI (tj_dg n w) = x
        · rw [decide_eq_true y] at hc
          rw [hc] at h
          exact br_t y (nm_r (nI_1 _) (nm_r (nI_1 n) h))
        · rw [decide_eq_false y] at hc
          rw [hc] at h
          exact br_f y (nm_r (nI_1 n) h)
      · rw [tj_bf z, Bool.false_and] at hc
        rw [hc] at h
        rw [tj_bf z]
        exact br_t rfl (nm_r (nI_1 n) h)
  unfold wpY_with
  dsimp only
  exact tj_ymiss hP hnp hw (fun _ => br_t rfl ⟨4096 + 1, L 4096 0 tr (by omega)⟩) (fun q => by rw [hs] at q; exact absurd q (by decide))
theorem tj_yvalues {e : Nat → Nat} {np w : Nat} (hP : tj_PL e pl) (hnp : np ≤ 4) (hw : w < 4) (hs : tj_st e np w = true) {post : Int32 → SY → Prop} (hp : ∀ tr', post (nI (tj_cn (fun x => decide (0 < tj_nw fa e np w x 4096)) 8)) (nI np, fa, pl, tr')) : wpY_values post (nI np, fa, pl, tr) ((-1) - nI w) := by
  have L : ∀ d x tr, x + d = 8 → wY_values_14 post ((-1) - nI w) (d + 1) (nI (tj_cn (fun x => decide (0 < tj_nw fa e np w x 4096)) x)) (nI x) (nI np) fa pl tr := by
    intro d
    induction d with
    | zero =>
      intro x tr hx
      obtain rfl : x = 8 := by omega
      exact br_t (nI_le (a := 8) (by omega) (by omega)) (hp tr)
    | succ d ih =>
      intro x tr hx
      refine br_f (nI_ge (b := 8) (by omega) (by decide)) (tj_ywith hP hnp hw hs (fun tr' => ?_))
      dsimp only
      rw [tj_nv_in fa e np w (by omega)]
      have hle : tj_nw fa e np w x 4096 ≤ 4096 := tj_cn_le _ _
      have h := ih (x + 1) tr' (by omega)
      by_cases z : 0 < tj_nw fa e np w x 4096
      · rw [tj_cn_t (p := fun x => decide (0 < tj_nw fa e np w x 4096)) (n := x) (decide_eq_true z)] at h
        exact br_f (nI_nle z (by omega)) (nm_r (nI_1 _) (nm_r (nI_1 x) h))
      · rw [tj_cn_f (p := fun x => decide (0 < tj_nw fa e np w x 4096)) (n := x) (decide_eq_false z)] at h
        have e0 : tj_nw fa e np w x 4096 = 0 := by omega
        rw [e0]
        exact br_t (by decide) (nm_r (nI_1 x) h)
  unfold wpY_values
  dsimp only
  exact tj_ymiss hP hnp hw (fun _ => br_t rfl ⟨8 + 1, L 8 0 tr (by omega)⟩) (fun q => by rw [hs] at q; exact absurd q (by decide))
end
end
section
/-! add, remove, pattern on both sides -/
theorem tj_nar1 : vp_nar .boolean 1 = 1 := rfl
theorem tj_nar0 : vp_nar .boolean 0 = 0 := rfl
theorem tj_f_t {g : Nat → Int32} {i : Nat} (h : tj_f g i = true) : ¬ g i = 0 := fun q => by
  unfold tj_f at h
  rw [q] at h
  exact absurd h (by decide)
theorem tj_f_f {g : Nat → Int32} {i : Nat} (h : tj_f g i = false) : g i = 0 := Classical.byContradiction fun q => by
  unfold tj_f at h
  rw [decide_eq_false q] at h
  exact absurd h (by decide)
section
variable {yp : Int32} {fa pl tr : Nat → Int32}
theorem tj_yadd0 {post : Int32 → SY → Prop} {a b c : Int32} (h : tj_q a = 8 ∨ tj_q b = 8 ∨ tj_q c = 8) (hp : post (-1) (yp, fa, pl, tr)) : wpY_add post (yp, fa, pl, tr) a b c := by
  unfold wpY_add
  dsimp only
  refine tj_yhas a b c ?_
  rw [tj_hv_0 h]
  refine br_f (by decide) ?_
  rcases tj_q_c a with ⟨_, ha⟩ | ⟨i, hi, rfl⟩
  · exact tj_out1 ha (br_f tj_n10 hp)
  · refine tj_out0 hi (br_t rfl ?_)
    rcases tj_q_c b with ⟨_, hb⟩ | ⟨j, hj, rfl⟩
    · exact tj_out1 hb (br_f tj_n10 hp)
    · refine tj_out0 hj (br_t rfl ?_)
      rcases tj_q_c c with ⟨_, hc⟩ | ⟨l, hl, rfl⟩
      · exact tj_out1 hc (br_f tj_n10 hp)
      · rw [tj_q_nI hi, tj_q_nI hj, tj_q_nI hl] at h
        omega
theorem tj_yadd1 {post : Int32 → SY → Prop} {s p o : Nat} (hs : s < 8) (hp : p < 8) (ho : o < 8) (hf : tj_f fa (64 * s + 8 * p + o) = true) (h : post (-1) (yp, fa, pl, tr)) : wpY_add post (yp, fa, pl, tr) (nI s) (nI p) (nI o) := by
  unfold wpY_add
  dsimp only
  refine tj_yhas _ _ _ ?_
  rw [tj_hv_1 hs hp ho, hf]
  exact br_t rfl h
theorem tj_yadd2 {post : Int32 → SY → Prop} {s p o : Nat} (hs : s < 8) (hp : p < 8) (ho : o < 8) (hf : tj_f fa (64 * s + 8 * p + o) = false) (h48 : tj_C fa 8 8 8 = 48 → post (-1) (yp, fa, pl, tr))
    (hgo : ¬ tj_C fa 8 8 8 = 48 → post (nI (tj_C (upd fa (64 * s + 8 * p + o) 1) 8 8 8)) (yp, upd fa (64 * s + 8 * p + o) 1, pl, tr)) : wpY_add post (yp, fa, pl, tr) (nI s) (nI p) (nI o) := by
  have hle := tj_C_le fa 8 8 8
  unfold wpY_add
  dsimp only
  refine tj_yhas _ _ _ ?_
  rw [tj_hv_1 hs hp ho, hf]
  refine br_f (by decide) (tj_out0 hs (br_t rfl (tj_out0 hp (br_t rfl (tj_out0 ho (br_t rfl (tj_yheld ?_)))))))
  by_cases z : tj_C fa 8 8 8 = 48
  · exact br_t (by rw [z]; rfl) (h48 z)
  · refine br_f (fun q => z ((nI_eq (b := 48) (by omega) (by omega)).mp q)) ?_
    rw [tj_i64, nI_clamp (by omega), tj_nar1]
    exact ⟨vp_in_nI (by omega) (by decide), nm_e (tj_yheld (hgo z))⟩
theorem tj_yrem0 {post : Int32 → SY → Prop} {a b c : Int32} (h : tj_hv fa a b c = 0) (hp : post (-1) (yp, fa, pl, tr)) : wpY_remove post (yp, fa, pl, tr) a b c := by
  unfold wpY_remove
  dsimp only
  refine tj_yhas a b c ?_
  rw [h]
  exact br_t rfl hp
theorem tj_yrem1 {post : Int32 → SY → Prop} {s p o : Nat} (hs : s < 8) (hp : p < 8) (ho : o < 8) (hf : tj_f fa (64 * s + 8 * p + o) = true)
    (hgo : post (nI (tj_C (upd fa (64 * s + 8 * p + o) 0) 8 8 8)) (yp, upd fa (64 * s + 8 * p + o) 0, pl, tr)) : wpY_remove post (yp, fa, pl, tr) (nI s) (nI p) (nI o) := by
  unfold wpY_remove
  dsimp only
  refine tj_yhas _ _ _ ?_
  rw [tj_hv_1 hs hp ho, hf]
  refine br_f tj_n10 ?_
  rw [tj_i64, nI_clamp (by omega), tj_nar0]
  exact ⟨vp_in_nI (by omega) (by decide), nm_e (tj_yheld hgo)⟩
end
section
variable {xh xp xv xs : Int32} {oo pp ss gg si pl vn bo ca vc : Nat → Int32}
theorem tj_xadd0 {post : Int32 → SX → Prop} {a b c : Int32} (h : tj_q a = 8 ∨ tj_q b = 8 ∨ tj_q c = 8) (hp : post (-1) (xh, xp, xv, xs, oo, pp, ss, gg, si, pl, vn, bo, ca, vc)) : wpX_add post (xh, xp, xv, xs, oo, pp, ss, gg, si, pl, vn, bo, ca, vc) a b c := by
  unfold wpX_add
  dsimp only
  rcases tj_q_c a with ⟨_, ha⟩ | ⟨i, hi, rfl⟩
  · exact tj_isP0 ha (br_t rfl hp)
  · refine tj_isP1 hi (br_f tj_n10 ?_)
    rcases tj_q_c b with ⟨_, hb⟩ | ⟨j, hj, rfl⟩
    · exact tj_isP0 hb (br_t rfl hp)
    · refine tj_isP1 hj (br_f tj_n10 ?_)
      rcases tj_q_c c with ⟨_, hc⟩ | ⟨l, hl, rfl⟩
      · exact tj_isP0 hc (br_t rfl hp)
      · rw [tj_q_nI hi, tj_q_nI hj, tj_q_nI hl] at h
        omega
theorem tj_xrem0 {post : Int32 → SX → Prop} {a b c : Int32} (h : tj_q a = 8 ∨ tj_q b = 8 ∨ tj_q c = 8) (hp : post (-1) (xh, xp, xv, xs, oo, pp, ss, gg, si, pl, vn, bo, ca, vc)) : wpX_remove post (xh, xp, xv, xs, oo, pp, ss, gg, si, pl, vn, bo, ca, vc) a b c := by
  unfold wpX_remove
  dsimp only
  rcases tj_q_c a with ⟨_, ha⟩ | ⟨i, hi, rfl⟩
  · exact tj_isP0 ha (br_t rfl hp)
  · refine tj_isP1 hi (br_f tj_n10 ?_)
    rcases tj_q_c b with ⟨_, hb⟩ | ⟨j, hj, rfl⟩
    · exact tj_isP0 hb (br_t rfl hp)
    · refine tj_isP1 hj (br_f tj_n10 ?_)
      rcases tj_q_c c with ⟨_, hc⟩ | ⟨l, hl, rfl⟩
      · exact tj_isP0 hc (br_t rfl hp)
      · rw [tj_q_nI hi, tj_q_nI hj, tj_q_nI hl] at h
        omega
theorem tj_xadd1 {g : Nat → Int32} (I : tj_IX g xh oo pp ss gg si) {post : Int32 → SX → Prop} {s p o : Nat} (hs : s < 8) (hp : p < 8) (ho : o < 8)
    (h0 : (48 ≤ tj_C g 8 8 8 ∨ tj_f g (64 * s + 8 * p + o) = true) → post (-1) (xh, xp, xv, xs, oo, pp, ss, gg, si, pl, vn, bo, ca, vc))
    (hgo : tj_C g 8 8 8 < 48 → tj_f g (64 * s + 8 * p + o) = false → post (xh + 1) (xh + 1, xp, xv, xs, upd oo (8 * s + p) (oo (8 * s + p) ^^^ ((1 : Int32) <<< (nI o &&& 31))), upd pp (8 * s + o) (pp (8 * s + o) ^^^ ((1 : Int32) <<< (nI p &&& 31))), upd ss (8 * p + o) (ss (8 * p + o) ^^^ ((1 : Int32) <<< (nI s &&& 31))), tj_ad (tj_ad (tj_ad (tj_ad (tj_ad (tj_ad gg (8 * s + p) 1) (64 + 8 * s + o) 1) (128 + 8 * p + s) 1) (192 + 8 * p + o) 1) (256 + 8 * o + s) 1) (320 + 8 * o + p) 1, tj_ad (tj_ad (tj_ad si s 1) (8 + p) 1) (16 + o) 1, pl, vn, bo, ca, vc)) :
    wpX_add post (xh, xp, xv, xs, oo, pp, ss, gg, si, pl, vn, bo, ca, vc) (nI s) (nI p) (nI o) := by
  have hle := tj_C_le g 8 8 8
  unfold wpX_add
  dsimp only
  refine tj_isP1 hs (br_f tj_n10 (tj_isP1 hp (br_f tj_n10 (tj_isP1 ho (br_f tj_n10 ?_)))))
  by_cases z : 48 ≤ tj_C g 8 8 8
  · exact br_t (by rw [I.1]; exact nI_le (a := 48) z (by omega)) (h0 (Or.inl z))
  · refine br_f (by rw [I.1]; exact nI_ge (b := 48) (by omega) (by decide)) ?_
    rw [tj_i8, nI_clamp (by omega), tj_BS_bit (I.2.2.1 s p hs hp) ho]
    refine ⟨vp_in_nI (by omega) (by decide), ?_⟩
    by_cases y : tj_f g (64 * s + 8 * p + o) = true
    · rw [y]
      exact br_f tj_n10 (h0 (Or.inr y))
    · rw [tj_bf y]
      refine br_t rfl (tj_enter hs hp ho 1 ?_)
      dsimp only
      exact nm_e (hgo (by omega) (tj_bf y))
theorem tj_xrem1 {g : Nat → Int32} (I : tj_IX g xh oo pp ss gg si) {post : Int32 → SX → Prop} {s p o : Nat} (hs : s < 8) (hp : p < 8) (ho : o < 8)
    (h0 : tj_f g (64 * s + 8 * p + o) = false → post (-1) (xh, xp, xv, xs, oo, pp, ss, gg, si, pl, vn, bo, ca, vc))
    (hgo : tj_f g (64 * s + 8 * p + o) = true → post (xh + (-1)) (xh + (-1), xp, xv, xs, upd oo (8 * s + p) (oo (8 * s + p) ^^^ ((1 : Int32) <<< (nI o &&& 31))), upd pp (8 * s + o) (pp (8 * s + o) ^^^ ((1 : Int32) <<< (nI p &&& 31))), upd ss (8 * p + o) (ss (8 * p + o) ^^^ ((1 : Int32) <<< (nI s &&& 31))), tj_ad (tj_ad (tj_ad (tj_ad (tj_ad (tj_ad gg (8 * s + p) (-1)) (64 + 8 * s + o) (-1)) (128 + 8 * p + s) (-1)) (192 + 8 * p + o) (-1)) (256 + 8 * o + s) (-1)) (320 + 8 * o + p) (-1), tj_ad (tj_ad (tj_ad si s (-1)) (8 + p) (-1)) (16 + o) (-1), pl, vn, bo, ca, vc)) :
    wpX_remove post (xh, xp, xv, xs, oo, pp, ss, gg, si, pl, vn, bo, ca, vc) (nI s) (nI p) (nI o) := by
  unfold wpX_remove
  dsimp only
  refine tj_isP1 hs (br_f tj_n10 (tj_isP1 hp (br_f tj_n10 (tj_isP1 ho (br_f tj_n10 ?_)))))
  rw [tj_i8, nI_clamp (by omega), tj_BS_bit (I.2.2.1 s p hs hp) ho]
  refine ⟨vp_in_nI (by omega) (by decide), ?_⟩
  by_cases y : tj_f g (64 * s + 8 * p + o) = true
  · rw [y]
    refine br_f tj_n10 (tj_enter hs hp ho (-1) ?_)
    dsimp only
    exact nm_r (Int32.sub_eq_add_neg _ _) (hgo y)
  · rw [tj_bf y]
    exact br_t rfl (h0 (tj_bf y))
end
def tj_in (x : Int32) : Prop := ¬ x < -4 ∧ ¬ 7 < x
theorem tj_code {x : Int32} (h : tj_in x) : ∃ m, m < 12 ∧ x = tj_pc m := by
  rcases tj_vcl x with z | ⟨_, _, z⟩ | ⟨v, hv, rfl⟩
  · exact absurd z h.1
  · have h0 : ¬ x < 0 := by
      rw [Int32.lt_iff_toInt_lt, show (-1 : Int32).toInt = -1 from by decide] at z
      rw [Int32.lt_iff_toInt_lt, show (0 : Int32).toInt = 0 from by decide]
      omega
    obtain ⟨j, hj, e⟩ := nI_of2 (M := 7) (n := 7) (by decide) h0 (Int32.not_lt.mp h.2)
    exact ⟨j, by omega, by rw [tj_pc_lt (by omega)]; exact e⟩
  · refine ⟨8 + v, by omega, ?_⟩
    unfold tj_pc
    rw [if_neg (by omega), Nat.add_sub_cancel_left]
section
variable {xh xp xv xs : Int32} {oo pp ss gg si pl vn bo ca vc : Nat → Int32}
variable {yp : Int32} {fa tr : Nat → Int32}
theorem tj_xpat0 {post : Int32 → SX → Prop} {np : Nat} (hnp : np ≤ 4) {a b c : Int32} (h : ¬ (tj_in a ∧ tj_in b ∧ tj_in c ∧ np < 4)) (hp : post (-1) (xh, nI np, xv, xs, oo, pp, ss, gg, si, pl, vn, bo, ca, vc)) : wpX_pattern post (xh, nI np, xv, xs, oo, pp, ss, gg, si, pl, vn, bo, ca, vc) a b c := by
  unfold wpX_pattern
  dsimp only
  refine br_c (fun _ => hp) (fun a1 => br_c (fun _ => hp) (fun a2 => br_c (fun _ => hp) (fun b1 => br_c (fun _ => hp) (fun b2 => br_c (fun _ => hp) (fun c1 => br_c (fun _ => hp) (fun c2 => br_f (fun z => ?_) hp))))))
  exact h ⟨⟨a1, a2⟩, ⟨b1, b2⟩, ⟨c1, c2⟩, (nI_ltI (b := 4) (by omega) (by omega)).mp z⟩
theorem tj_ypat0 {post : Int32 → SY → Prop} {np : Nat} (hnp : np ≤ 4) {a b c : Int32} (h : ¬ (tj_in a ∧ tj_in b ∧ tj_in c ∧ np < 4)) (hp : post (-1) (nI np, fa, pl, tr)) : wpY_pattern post (nI np, fa, pl, tr) a b c := by
  unfold wpY_pattern
  dsimp only
  refine br_c (fun _ => hp) (fun a1 => br_c (fun _ => hp) (fun a2 => br_c (fun _ => hp) (fun b1 => br_c (fun _ => hp) (fun b2 => br_c (fun _ => hp) (fun c1 => br_c (fun _ => hp) (fun c2 => ?_))))))
  have h4 : np = 4 := Classical.byContradiction fun z => h ⟨⟨a1, a2⟩, ⟨b1, b2⟩, ⟨c1, c2⟩, by omega⟩
  exact br_t (by rw [h4]; rfl) hp
theorem tj_xpat1 {post : Int32 → SX → Prop} {np : Nat} {a b c : Int32} (ha : tj_in a) (hb : tj_in b) (hc : tj_in c) (hn : np < 4) (hp : post (nI (np + 1)) (xh, nI (np + 1), xv, xs, oo, pp, ss, gg, si, upd (upd (upd pl (3 * np) a) (3 * np + 1) b) (3 * np + 2) c, vn, bo, ca, vc)) : wpX_pattern post (xh, nI np, xv, xs, oo, pp, ss, gg, si, pl, vn, bo, ca, vc) a b c := by
  unfold wpX_pattern
  dsimp only
  refine br_f ha.1 (br_f ha.2 (br_f hb.1 (br_f hb.2 (br_f hc.1 (br_f hc.2 (br_t (nI_lt (b := 4) hn (by decide)) ?_))))))
  rw [tj_i31, tj_i32, tj_i3, nI_clamp (by omega), nI_clamp (by omega), nI_clamp (by omega)]
  exact ⟨vp_in_nI (by omega) (by decide), nm_e ⟨vp_in_nI (by omega) (by decide), nm_e ⟨vp_in_nI (by omega) (by decide), nm_e (nm_r (nI_1 np) hp)⟩⟩⟩
theorem tj_ypat1 {post : Int32 → SY → Prop} {np : Nat} {a b c : Int32} (ha : tj_in a) (hb : tj_in b) (hc : tj_in c) (hn : np < 4) (hp : post (nI (np + 1)) (nI (np + 1), fa, upd (upd (upd pl (3 * np) a) (3 * np + 1) b) (3 * np + 2) c, tr)) : wpY_pattern post (nI np, fa, pl, tr) a b c := by
  unfold wpY_pattern
  dsimp only
  have h4 : ¬ nI np = 4 := fun q => by
    have := (nI_eq (b := 4) (by omega) (by omega)).mp q
    omega
  refine br_f ha.1 (br_f ha.2 (br_f hb.1 (br_f hb.2 (br_f hc.1 (br_f hc.2 (br_f h4 ?_))))))
  rw [tj_i31, tj_i32, tj_i3, nI_clamp (by omega), nI_clamp (by omega), nI_clamp (by omega)]
  exact ⟨vp_in_nI (by omega) (by decide), nm_e ⟨vp_in_nI (by omega) (by decide), nm_e ⟨vp_in_nI (by omega) (by decide), nm_e (nm_r (nI_1 np) hp)⟩⟩⟩
theorem tj_PL_u {e : Nat → Nat} (hP : tj_PL e pl) (k : Nat) {a : Int32} (ha : tj_in a) : ∃ e', tj_PL e' (upd pl k a) := by
  obtain ⟨m, hm, hma⟩ := tj_code ha
  refine ⟨fun i => if i = k then m else e i, fun i hi => ?_⟩
  by_cases z : i = k
  · show (if i = k then m else e i) < 12 ∧ upd pl k a i = tj_pc (if i = k then m else e i)
    rw [if_pos z, z, pk_us]
    exact ⟨hm, hma⟩
  · show (if i = k then m else e i) < 12 ∧ upd pl k a i = tj_pc (if i = k then m else e i)
    rw [if_neg z, pk_un z]
    exact hP i hi
theorem tj_values19 {w : Nat} (hw : w < 4) {c : Nat → Nat} (hc : ∀ x, x < 8 → c x < 2 ^ 31 ∧ vc (8 * w + x) = nI (c x)) {post : Int32 → SX → Prop} (hp : post (nI (tj_cn (fun x => decide (0 < c x)) 8)) (xh, xp, xv, xs, oo, pp, ss, gg, si, pl, vn, bo, ca, vc)) :
    ∀ d x, x + d = 8 → wX_values_19 post ((-1) - nI w) xh xp xv xs oo pp ss gg si pl vn bo ca vc (d + 1) (nI (tj_cn (fun x => decide (0 < c x)) x)) (nI x) := by
  have hb := tj_vin w hw
  intro d
  induction d with
  | zero =>
    intro x hx
    obtain rfl : x = 8 := by omega
    exact br_t (nI_le (a := 8) (by omega) (by omega)) hp
  | succ d ih =>
    intro x hx
    have hcx := hc x (by omega)
    refine br_f (nI_ge (b := 8) (by omega) (by decide)) ?_
    rw [hb.2.2.2, tj_i8, nI_clamp (by omega), hcx.2]
    refine ⟨vp_in_nI (by omega) (by decide), ?_⟩
    have h := ih (x + 1) (by omega)
    by_cases z : 0 < c x
    · rw [tj_cn_t (p := fun x => decide (0 < c x)) (n := x) (decide_eq_true z)] at h
      exact br_f (nI_nle z hcx.1) (nm_r (nI_1 _) (nm_r (nI_1 x) h))
    · rw [tj_cn_f (p := fun x => decide (0 < c x)) (n := x) (decide_eq_false z)] at h
      have e0 : c x = 0 := by omega
      rw [e0]
      exact br_t (by decide) (nm_r (Int32.add_zero _) (nm_r (nI_1 x) h))
end
end
section
/-! ===== WHAT IS OWED: the relation, and one statement a case ===== -/
/-- one question, one set of facts: the component's indexes are those of the reference's facts -/
def i_Rel (k : Nat) (u : SX) (v : SY) : Prop :=
  match u, v with
  | (xh, xp, _, _, oo, pp, ss, gg, si, pl, _, _, _, _), (yp, fa, py, _) =>
    ∃ (np : Nat) (e : Nat → Nat), xp = nI np ∧ yp = nI np ∧ np ≤ 4 ∧ pl = py ∧ tj_PL e pl ∧ tj_IX fa xh oo pp ss gg si
section
variable {xh xp xv xs : Int32} {oo pp ss gg si pl vn bo ca vc : Nat → Int32}
variable {yp : Int32} {fa tr : Nat → Int32}
theorem tj_rel {k np : Nat} {e : Nat → Nat} (hnp : np ≤ 4) (hP : tj_PL e pl) (hI : tj_IX fa xh oo pp ss gg si) : i_Rel k (xh, nI np, xv, xs, oo, pp, ss, gg, si, pl, vn, bo, ca, vc) (nI np, fa, pl, tr) :=
  Exists.intro np (Exists.intro e ⟨rfl, rfl, hnp, rfl, hP, hI⟩)
theorem tj_el {k : Nat} {P : SX → SY → Prop} (h : ∀ xh xv xs oo pp ss gg si pl vn bo ca vc fa tr np e, np ≤ 4 → tj_PL e pl → tj_IX fa xh oo pp ss gg si → P (xh, nI np, xv, xs, oo, pp, ss, gg, si, pl, vn, bo, ca, vc) (nI np, fa, pl, tr)) {u : SX} {v : SY} (I : i_Rel k u v) : P u v := by
  obtain ⟨xh, xp, xv, xs, oo, pp, ss, gg, si, pl, vn, bo, ca, vc⟩ := u
  obtain ⟨yp, fa, py, tr⟩ := v
  obtain ⟨np, e, rfl, rfl, hnp, rfl, hP, hI⟩ := I
  exact h xh xv xs oo pp ss gg si pl vn bo ca vc fa tr np e hnp hP hI
end
theorem i_up {k : Nat} {u : SX} {v : SY} (h : i_Rel k u v) : i_Rel (k + 4) u v := h
theorem i_vc0 : wpX_init (fun u => wpY_init (fun v => i_Rel 0 u v)) :=
  tj_rel (k := 0) (np := 0) (e := fun _ => 0) (xv := 0) (xs := 0) (vn := fun _ => 0) (bo := fun _ => 0) (ca := fun _ => 0) (vc := fun _ => 0) (tr := fun _ => 0) (by omega) (fun i hi => ⟨(by decide : 0 < 12), rfl⟩) (tj_IX_0 (fun _ _ => rfl))
theorem i_vc_add {k : Nat} {u : SX} {v : SY} (I : i_Rel k u v) (hk : k + 4 ≤ 2048) (v1 : Int32) (v2 : Int32) (v3 : Int32) : wpX_add (fun r u' => wpY_add (fun r' v' => r' = r ∧ i_Rel (k + 4) u' v') v v1 v2 v3) u v1 v2 v3 := by
  refine tj_el (P := fun u v => wpX_add (fun r u' => wpY_add (fun r' v' => r' = r ∧ i_Rel (k + 4) u' v') v v1 v2 v3) u v1 v2 v3) ?_ I
  intro xh xv xs oo pp ss gg si pl vn bo ca vc fa tr np e hnp hP hI
  have h0 : (tj_q v1 = 8 ∨ tj_q v2 = 8 ∨ tj_q v3 = 8) → wpX_add (fun r u' => wpY_add (fun r' v' => r' = r ∧ i_Rel (k + 4) u' v') (nI np, fa, pl, tr) v1 v2 v3) (xh, nI np, xv, xs, oo, pp, ss, gg, si, pl, vn, bo, ca, vc) v1 v2 v3 := fun hq => tj_xadd0 hq (tj_yadd0 hq ⟨rfl, tj_rel hnp hP hI⟩)
  rcases tj_q_c v1 with ⟨q1, _⟩ | ⟨s, hs, e1⟩
  · exact h0 (Or.inl q1)
  · rcases tj_q_c v2 with ⟨q2, _⟩ | ⟨p, hp, e2⟩
    · exact h0 (Or.inr (Or.inl q2))
    · rcases tj_q_c v3 with ⟨q3, _⟩ | ⟨o, ho, e3⟩
      · exact h0 (Or.inr (Or.inr q3))
      · rw [e1, e2, e3]
        refine tj_xadd1 hI hs hp ho (fun hq => ?_) (fun hlt hf => ?_)
        · by_cases hf : tj_f fa (64 * s + 8 * p + o) = true
          · exact tj_yadd1 hs hp ho hf ⟨rfl, tj_rel hnp hP hI⟩
          · refine tj_yadd2 hs hp ho (tj_bf hf) (fun _ => ⟨rfl, tj_rel hnp hP hI⟩) (fun hn => ?_)
            have h48 := hI.2.1
            rcases hq with z | z
            · omega
            · exact absurd z hf
        · refine tj_yadd2 hs hp ho hf (fun h48 => by omega) (fun _ => ?_)
          have hF := tj_Fl_add hs hp ho (tj_f_f hf)
          have hC : tj_C (upd fa (64 * s + 8 * p + o) 1) 8 8 8 ≤ 48 := by
            have h1 := hF.2 8 8 8
            rw [tj_ag8, tj_ag8, tj_ag8, if_pos (by decide), nI_1] at h1
            have l1 := tj_C_le (upd fa (64 * s + 8 * p + o) 1) 8 8 8
            rw [nI_eq (by omega) (by omega)] at h1
            omega
          have hI' := tj_IX_fl hs hp ho hF hI hC
          exact ⟨hI'.1.symm, tj_rel hnp hP hI'⟩
theorem i_vc_remove {k : Nat} {u : SX} {v : SY} (I : i_Rel k u v) (hk : k + 4 ≤ 2048) (v1 : Int32) (v2 : Int32) (v3 : Int32) : wpX_remove (fun r u' => wpY_remove (fun r' v' => r' = r ∧ i_Rel (k + 4) u' v') v v1 v2 v3) u v1 v2 v3 := by
  refine tj_el (P := fun u v => wpX_remove (fun r u' => wpY_remove (fun r' v' => r' = r ∧ i_Rel (k + 4) u' v') v v1 v2 v3) u v1 v2 v3) ?_ I
  intro xh xv xs oo pp ss gg si pl vn bo ca vc fa tr np e hnp hP hI
  have h0 : (tj_q v1 = 8 ∨ tj_q v2 = 8 ∨ tj_q v3 = 8) → wpX_remove (fun r u' => wpY_remove (fun r' v' => r' = r ∧ i_Rel (k + 4) u' v') (nI np, fa, pl, tr) v1 v2 v3) (xh, nI np, xv, xs, oo, pp, ss, gg, si, pl, vn, bo, ca, vc) v1 v2 v3 := fun hq => tj_xrem0 hq (tj_yrem0 (tj_hv_0 hq) ⟨rfl, tj_rel hnp hP hI⟩)
  rcases tj_q_c v1 with ⟨q1, _⟩ | ⟨s, hs, e1⟩
  · exact h0 (Or.inl q1)
  · rcases tj_q_c v2 with ⟨q2, _⟩ | ⟨p, hp, e2⟩
    · exact h0 (Or.inr (Or.inl q2))
    · rcases tj_q_c v3 with ⟨q3, _⟩ | ⟨o, ho, e3⟩
      · exact h0 (Or.inr (Or.inr q3))
      · rw [e1, e2, e3]
        refine tj_xrem1 hI hs hp ho (fun hf => ?_) (fun hf => ?_)
        · refine tj_yrem0 ?_ ⟨rfl, tj_rel hnp hP hI⟩
          rw [tj_hv_1 hs hp ho, hf]
          rfl
        · refine tj_yrem1 hs hp ho hf ?_
          have hF := tj_Fl_rem hs hp ho (tj_f_t hf)
          have hC : tj_C (upd fa (64 * s + 8 * p + o) 0) 8 8 8 ≤ 48 := by
            have h1 := tj_C_u fa hs hp ho 0 8 8 8
            rw [show (!decide ((0 : Int32) = 0)) = false from by decide, Bool.false_and] at h1
            have h2 := hI.2.1
            have h3 : false.toNat = 0 := rfl
            omega
          have hI' := tj_IX_fl hs hp ho hF hI hC
          exact ⟨hI'.1.symm, tj_rel hnp hP hI'⟩
theorem i_vc_pattern {k : Nat} {u : SX} {v : SY} (I : i_Rel k u v) (hk : k + 4 ≤ 2048) (v1 : Int32) (v2 : Int32) (v3 : Int32) : wpX_pattern (fun r u' => wpY_pattern (fun r' v' => r' = r ∧ i_Rel (k + 4) u' v') v v1 v2 v3) u v1 v2 v3 := by
  refine tj_el (P := fun u v => wpX_pattern (fun r u' => wpY_pattern (fun r' v' => r' = r ∧ i_Rel (k + 4) u' v') v v1 v2 v3) u v1 v2 v3) ?_ I
  intro xh xv xs oo pp ss gg si pl vn bo ca vc fa tr np e hnp hP hI
  by_cases h : tj_in v1 ∧ tj_in v2 ∧ tj_in v3 ∧ np < 4
  · obtain ⟨h1, h2, h3, h4⟩ := h
    obtain ⟨ea, ha⟩ := tj_PL_u hP (3 * np) h1
    obtain ⟨eb, hb⟩ := tj_PL_u ha (3 * np + 1) h2
    obtain ⟨ec, hc⟩ := tj_PL_u hb (3 * np + 2) h3
    exact tj_xpat1 h1 h2 h3 h4 (tj_ypat1 h1 h2 h3 h4 ⟨rfl, tj_rel (by omega) hc hI⟩)
  · exact tj_xpat0 hnp h (tj_ypat0 hnp h ⟨rfl, tj_rel hnp hP hI⟩)
theorem i_vc_clear {k : Nat} {u : SX} {v : SY} (I : i_Rel k u v) (hk : k + 4 ≤ 2048) : wpX_clear (fun u' => wpY_clear (fun v' => i_Rel (k + 4) u' v') v) u := by
  refine tj_el (P := fun u v => wpX_clear (fun u' => wpY_clear (fun v' => i_Rel (k + 4) u' v') v) u) ?_ I
  intro xh xv xs oo pp ss gg si pl vn bo ca vc fa tr np e hnp hP hI
  unfold wpX_clear wpY_clear
  exact tj_rel (k := k + 4) (np := 0) (xh := xh) (xv := xv) (xs := xs) (vn := vn) (bo := bo) (ca := ca) (vc := vc) (tr := tr) (by omega) hP hI
theorem tj_m1 {m : Nat} (hm : m ≤ 4096) (h : (-1 : Int32) = nI m) : False := nI_pos (n := m) (by omega) (by rw [← h]; decide)
theorem i_vc_solutions {k : Nat} {u : SX} {v : SY} (I : i_Rel k u v) (hk : k + 4 ≤ 2048) : wpX_solutions (fun r u' => wpY_solutions (fun r' v' => r' = r ∧ i_Rel (k + 4) u' v') v) u := by
  refine tj_el (P := fun u v => wpX_solutions (fun r u' => wpY_solutions (fun r' v' => r' = r ∧ i_Rel (k + 4) u' v') v) u) ?_ I
  intro xh xv xs oo pp ss gg si pl vn bo ca vc fa tr np e hnp hP hI
  unfold wpX_solutions
  dsimp only
  refine tj_xjoin hI hP hnp (fun vn' bo' ca' vc' hV hN => ?_) (fun vn' i bo' ca' vc' hi hS hx hB => ?_)
  · dsimp only
    exact tj_ysolutions hP hnp (fun tr' => ⟨rfl, tj_rel hnp hP hI⟩)
  · have := tj_cn_le (tj_S fa e np) i
    exact (tj_m1 (by omega) hx).elim
section
variable {yp : Int32} {fa pl tr : Nat → Int32}
theorem tj_ysol {e : Nat → Nat} {np w : Nat} (hP : tj_PL e pl) (hnp : np ≤ 4) (hw : w < 4) (hs : tj_st e np w = true) {x1 : Int32} {post : Int32 → SY → Prop} (m : Nat) (hm : m ≤ 4096)
    (hno : ∀ i, i < m → tj_S fa e np i = true → ¬ nI (tj_cn (tj_S fa e np) i) = x1)
    (hend : m = 4096 → ∀ tr', post (-1) (nI np, fa, pl, tr'))
    (hfnd : m < 4096 → tj_S fa e np m = true ∧ nI (tj_cn (tj_S fa e np) m) = x1 ∧ ∀ tr', post (nI (tj_dg m w)) (nI np, fa, pl, tr')) :
    wpY_solution post (nI np, fa, pl, tr) x1 ((-1) - nI w) := by
  unfold wpY_solution
  dsimp only
  exact tj_ymiss hP hnp hw (fun _ => br_t rfl ⟨m + 1, tj_ysol15 hP hnp hw m hm hno hend hfnd m 0 tr (by omega)⟩) (fun q => by rw [hs] at q; exact absurd q (by decide))
end
theorem i_vc_solution {k : Nat} {u : SX} {v : SY} (I : i_Rel k u v) (hk : k + 4 ≤ 2048) (v1 : Int32) (v2 : Int32) : wpX_solution (fun r u' => wpY_solution (fun r' v' => r' = r ∧ i_Rel (k + 4) u' v') v v1 v2) u v1 v2 := by
  refine tj_el (P := fun u v => wpX_solution (fun r u' => wpY_solution (fun r' v' => r' = r ∧ i_Rel (k + 4) u' v') v v1 v2) u v1 v2) ?_ I
  intro xh xv xs oo pp ss gg si pl vn bo ca vc fa tr np e hnp hP hI
  unfold wpX_solution
  dsimp only
  have h0 : (v2 < -4 ∨ (¬ v2 < -4 ∧ -1 < v2)) → wpY_solution (fun r' v' => r' = -1 ∧ i_Rel (k + 4) (xh, nI np, xv, xs, oo, pp, ss, gg, si, pl, vn, bo, ca, vc) v') (nI np, fa, pl, tr) v1 v2 := fun q => by
    unfold wpY_solution
    dsimp only
    exact tj_ymiss1 q (br_f tj_n10 ⟨rfl, tj_rel hnp hP hI⟩)
  rcases tj_vcl v2 with z | ⟨z1, z2, z3⟩ | ⟨w, hw, rfl⟩
  · exact tj_xstands0 (Or.inl z) (br_t rfl (h0 (Or.inl z)))
  · exact tj_xstands0 (Or.inr ⟨z1, z2⟩) (br_t rfl (h0 (Or.inr ⟨z1, z3⟩)))
  · have hb := tj_vin w hw
    refine tj_xstands hP hnp hw (fun hs => ?_) (fun hs => ?_)
    · refine br_f tj_n10 ?_
      by_cases z : v1 < 0
      · refine br_f (Int32.not_le.mpr z) (tj_ysol hP hnp hw hs 4096 (Nat.le_refl _) (fun i hi hS q => ?_) (fun _ tr' => ⟨rfl, tj_rel hnp hP hI⟩) (fun q => by omega))
        have hle := tj_cn_le (tj_S fa e np) i
        exact nI_pos (by omega) (q ▸ z)
      · refine br_t (Int32.not_lt.mp z) (tj_xjoin hI hP hnp (fun vn' bo' ca' vc' hV hN => ?_) (fun vn' i bo' ca' vc' hi hS hx hB => ?_))
        · dsimp only
          have hle : nI (tj_cn (tj_S fa e np) 4096) ≤ v1 := hN.resolve_left z
          refine br_t hle (tj_ysol hP hnp hw hs 4096 (Nat.le_refl _) (fun i hi hS q => ?_) (fun _ tr' => ⟨rfl, tj_rel hnp hP hI⟩) (fun q => by omega))
          have hl1 := tj_cn_le (tj_S fa e np) 4096
          have hl2 := tj_sd_lt hS hi
          rw [← q, nI_leI (by omega) (by omega)] at hle
          omega
        · dsimp only
          have hl1 := tj_cn_le (tj_S fa e np) i
          have hgt : ¬ nI (tj_cn (tj_S fa e np) (i + 1)) ≤ v1 := by
            rw [hx, tj_cn_t hS]
            exact nI_ge (by omega) (by omega)
          refine br_f hgt ?_
          rw [hb.2.2.2, nI_clamp (by omega), hB w hw, if_pos ⟨hw, hs⟩]
          refine ⟨vp_in_nI hw (by decide), tj_ysol hP hnp hw hs i (by omega) (fun j hj hSj q => ?_) (fun q => by omega) (fun _ => ⟨hS, hx.symm, fun tr' => ⟨rfl, tj_rel hnp hP hI⟩⟩)⟩
          have hl2 := tj_sd_lt hSj hj
          rw [hx, nI_eq (by omega) (by omega)] at q
          omega
    · refine br_t rfl ?_
      unfold wpY_solution
      dsimp only
      exact tj_ymiss hP hnp hw (fun q => by rw [hs] at q; exact absurd q (by decide)) (fun _ => br_f tj_n10 ⟨rfl, tj_rel hnp hP hI⟩)
theorem i_vc_with {k : Nat} {u : SX} {v : SY} (I : i_Rel k u v) (hk : k + 4 ≤ 2048) (v1 : Int32) (v2 : Int32) : wpX_with (fun r u' => wpY_with (fun r' v' => r' = r ∧ i_Rel (k + 4) u' v') v v1 v2) u v1 v2 := by
  refine tj_el (P := fun u v => wpX_with (fun r u' => wpY_with (fun r' v' => r' = r ∧ i_Rel (k + 4) u' v') v v1 v2) u v1 v2) ?_ I
  intro xh xv xs oo pp ss gg si pl vn bo ca vc fa tr np e hnp hP hI
  unfold wpX_with
  dsimp only
  have h0 : (v1 < -4 ∨ (¬ v1 < -4 ∧ -1 < v1)) → wpY_with (fun r' v' => r' = -1 ∧ i_Rel (k + 4) (xh, nI np, xv, xs, oo, pp, ss, gg, si, pl, vn, bo, ca, vc) v') (nI np, fa, pl, tr) v1 v2 := fun q => by
    unfold wpY_with
    dsimp only
    exact tj_ymiss1 q (br_f tj_n10 ⟨rfl, tj_rel hnp hP hI⟩)
  rcases tj_vcl v1 with z | ⟨z1, z2, z3⟩ | ⟨w, hw, rfl⟩
  · exact tj_xstands0 (Or.inl z) (br_t rfl (h0 (Or.inl z)))
  · exact tj_xstands0 (Or.inr ⟨z1, z2⟩) (br_t rfl (h0 (Or.inr ⟨z1, z3⟩)))
  · have hb := tj_vin w hw
    refine tj_xstands hP hnp hw (fun hs => ?_) (fun hs => ?_)
    · refine br_f tj_n10 (tj_xjoin hI hP hnp (fun vn' bo' ca' vc' hV hN => ?_) (fun vn' i bo' ca' vc' hi hS hx hB => ?_))
      · dsimp only
        rcases tj_q_c v2 with ⟨_, h2⟩ | ⟨x, hx, rfl⟩
        · refine tj_isP0 h2 (br_t rfl (tj_ywith hP hnp hw hs (fun tr' => ⟨?_, tj_rel hnp hP hI⟩)))
          rw [tj_nv_out fa e np w h2]
          rfl
        · refine tj_isP1 hx (br_f tj_n10 ?_)
          rw [hb.2.2.2, tj_i8, nI_clamp (by omega), hV w x hw hx hs]
          refine ⟨vp_in_nI (by omega) (by decide), tj_ywith hP hnp hw hs (fun tr' => ⟨?_, tj_rel hnp hP hI⟩)⟩
          rw [tj_nv_in fa e np w hx]
      · have := tj_cn_le (tj_S fa e np) i
        exact (tj_m1 (by omega) hx).elim
    · refine br_t rfl ?_
      unfold wpY_with
      dsimp only
      exact tj_ymiss hP hnp hw (fun q => by rw [hs] at q; exact absurd q (by decide)) (fun _ => br_f tj_n10 ⟨rfl, tj_rel hnp hP hI⟩)
theorem i_vc_values {k : Nat} {u : SX} {v : SY} (I : i_Rel k u v) (hk : k + 4 ≤ 2048) (v1 : Int32) : wpX_values (fun r u' => wpY_values (fun r' v' => r' = r ∧ i_Rel (k + 4) u' v') v v1) u v1 := by
  refine tj_el (P := fun u v => wpX_values (fun r u' => wpY_values (fun r' v' => r' = r ∧ i_Rel (k + 4) u' v') v v1) u v1) ?_ I
  intro xh xv xs oo pp ss gg si pl vn bo ca vc fa tr np e hnp hP hI
  unfold wpX_values
  dsimp only
  have h0 : (v1 < -4 ∨ (¬ v1 < -4 ∧ -1 < v1)) → wpY_values (fun r' v' => r' = -1 ∧ i_Rel (k + 4) (xh, nI np, xv, xs, oo, pp, ss, gg, si, pl, vn, bo, ca, vc) v') (nI np, fa, pl, tr) v1 := fun q => by
    unfold wpY_values
    dsimp only
    exact tj_ymiss1 q (br_f tj_n10 ⟨rfl, tj_rel hnp hP hI⟩)
  rcases tj_vcl v1 with z | ⟨z1, z2, z3⟩ | ⟨w, hw, rfl⟩
  · exact tj_xstands0 (Or.inl z) (br_t rfl (h0 (Or.inl z)))
  · exact tj_xstands0 (Or.inr ⟨z1, z2⟩) (br_t rfl (h0 (Or.inr ⟨z1, z3⟩)))
  · refine tj_xstands hP hnp hw (fun hs => ?_) (fun hs => ?_)
    · refine br_f tj_n10 (tj_xjoin hI hP hnp (fun vn' bo' ca' vc' hV hN => ?_) (fun vn' i bo' ca' vc' hi hS hx hB => ?_))
      · dsimp only
        refine ⟨8 + 1, tj_values19 hw (c := fun x => tj_nw fa e np w x 4096) (fun x hx => ⟨Nat.lt_of_le_of_lt (tj_cn_le _ _) (by decide), hV w x hw hx hs⟩) ?_ 8 0 (by omega)⟩
        exact tj_yvalues hP hnp hw hs (fun tr' => ⟨rfl, tj_rel hnp hP hI⟩)
      · have := tj_cn_le (tj_S fa e np) i
        exact (tj_m1 (by omega) hx).elim
    · refine br_t rfl ?_
      unfold wpY_values
      dsimp only
      exact tj_ymiss hP hnp hw (fun q => by rw [hs] at q; exact absurd q (by decide)) (fun _ => br_f tj_n10 ⟨rfl, tj_rel hnp hP hI⟩)
theorem i_vc_count {k : Nat} {u : SX} {v : SY} (I : i_Rel k u v) (hk : k + 4 ≤ 2048) (v1 : Int32) (v2 : Int32) (v3 : Int32) : wpX_count (fun r => wpY_count (fun r' => r' = r ∧ i_Rel (k + 4) u v) v v1 v2 v3) u v1 v2 v3 := by
  refine tj_el (P := fun u v => wpX_count (fun r => wpY_count (fun r' => r' = r ∧ i_Rel (k + 4) u v) v v1 v2 v3) u v1 v2 v3) ?_ I
  intro xh xv xs oo pp ss gg si pl vn bo ca vc fa tr np e hnp hP hI
  exact tj_xcount hI v1 v2 v3 (tj_ycount ⟨rfl, tj_rel hnp hP hI⟩)
theorem i_vc_has {k : Nat} {u : SX} {v : SY} (I : i_Rel k u v) (hk : k + 4 ≤ 2048) (v1 : Int32) (v2 : Int32) (v3 : Int32) : wpX_has (fun r => wpY_has (fun r' => r' = r ∧ i_Rel (k + 4) u v) v v1 v2 v3) u v1 v2 v3 := by
  refine tj_el (P := fun u v => wpX_has (fun r => wpY_has (fun r' => r' = r ∧ i_Rel (k + 4) u v) v v1 v2 v3) u v1 v2 v3) ?_ I
  intro xh xv xs oo pp ss gg si pl vn bo ca vc fa tr np e hnp hP hI
  exact tj_xhas hI v1 v2 v3 (tj_yhas v1 v2 v3 ⟨rfl, tj_rel hnp hP hI⟩)
end
