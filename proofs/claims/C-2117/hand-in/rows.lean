section
theorem pk_us {f : Nat → Int32} {k : Nat} {x : Int32} : upd f k x k = x := if_pos rfl
theorem pk_un {f : Nat → Int32} {k j : Nat} {x : Int32} (h : j ≠ k) : upd f k x j = f j := if_neg h
theorem pk_sub {a b : Nat} (h : b ≤ a) : nI a - nI b = nI (a - b) := by
  obtain ⟨c, rfl⟩ : ∃ c, a = c + b := ⟨a - b, by omega⟩
  rw [← nI_add, Int32.add_sub_cancel, Nat.add_sub_cancel]
theorem pk_m1 (n : Nat) : nI (n + 1) + (-1) = nI n := by
  rw [← nI_1, Int32.add_assoc, show (1 : Int32) + (-1) = 0 from rfl, Int32.add_zero]
theorem pk_mul (a b : Nat) : nI a * nI b = nI (a * b) := (Int32.ofNat_mul a b).symm
theorem pk_div {a d : Nat} (ha : a < 2 ^ 31) (h0 : 0 < d) (hd : d < 2 ^ 31) : nI a / nI d = nI (a / d) := by
  apply Int32.toInt_inj.mp
  rw [lg_idiv_nonneg (by rw [nI_toInt ha]; omega) (by rw [nI_toInt hd]; omega), nI_toInt ha, nI_toInt hd, nI_toInt (Nat.lt_of_le_of_lt (Nat.div_le_self a d) ha)]
  first | rfl | exact (Int.natCast_ediv _ _).symm
theorem pk_rem {a d : Nat} (ha : a < 2 ^ 31) (h0 : 0 < d) (hd : d < 2 ^ 31) : nI a - nI a / nI d * nI d = nI (a % d) := by
  rw [pk_div ha h0 hd, pk_mul, pk_sub (Nat.div_mul_le_self a d)]
  exact congrArg nI (by have := Nat.div_add_mod' a d; omega)
theorem pk_ix (x : Int32) {n : Nat} (hn : n < 2 ^ 31) : x < 0 ∨ nI n ≤ x ∨ ∃ j : Nat, j < n ∧ x = nI j := by
  by_cases h : x < 0
  · exact Or.inl h
  · obtain ⟨j, hj, rfl⟩ := nI_of h
    by_cases h2 : j < n
    · exact Or.inr (Or.inr ⟨j, h2, rfl⟩)
    · exact Or.inr (Or.inl (nI_le (by omega) hj))
theorem pk_le {x y : Int32} {A B : Prop} (a b : Nat) (f : a ≤ b → A) (g : b < a → B) (hx : x = nI a := by rfl) (hy : y = nI b := by rfl) (ha : a < 2 ^ 31 := by omega) (hb : b < 2 ^ 31 := by omega) : (x ≤ y → A) ∧ (¬ x ≤ y → B) := by
  subst hx hy
  rw [nI_leI ha hb]
  exact ⟨f, fun z => g (by omega)⟩
theorem pk_lt {x y : Int32} {A B : Prop} (a b : Nat) (f : a < b → A) (g : b ≤ a → B) (hx : x = nI a := by rfl) (hy : y = nI b := by rfl) (ha : a < 2 ^ 31 := by omega) (hb : b < 2 ^ 31 := by omega) : (x < y → A) ∧ (¬ x < y → B) := by
  subst hx hy
  rw [nI_ltI ha hb]
  exact ⟨f, fun z => g (by omega)⟩
theorem pk_eq {x y : Int32} {A B : Prop} (a b : Nat) (f : a = b → A) (g : a ≠ b → B) (hx : x = nI a := by rfl) (hy : y = nI b := by rfl) (ha : a < 2 ^ 31 := by omega) (hb : b < 2 ^ 31 := by omega) : (x = y → A) ∧ (¬ x = y → B) := by
  subst hx hy
  rw [nI_eq ha hb]
  exact ⟨f, g⟩
theorem pk_in {x : Int32} (n N : Nat) (h : n < N) (hx : x = nI n := by rfl) (hN : N < 2 ^ 31 := by omega) : vp_in x N := by
  subst hx
  exact vp_in_nI h hN
theorem pk_cl {x : Int32} (n : Nat) (hx : x = nI n := by rfl) (h : n < 2 ^ 31 := by omega) : x.toNatClampNeg = n := by
  subst hx
  exact nI_clamp h
theorem pk_tn {n : Nat} (h : n < 2 ^ 32) : (nI n).toBitVec.toNat = n := Nat.mod_eq_of_lt h
theorem pk_and (x : Int32) {m : Int32} (k : Nat) (hm : m.toBitVec.toNat = 2 ^ k - 1) : x &&& m = nI (x.toBitVec.toNat % 2 ^ k) := by
  apply Int32.toBitVec_inj.mp
  apply BitVec.eq_of_toNat_eq
  rw [Int32.toBitVec_and, BitVec.toNat_and, hm, Nat.and_two_pow_sub_one_eq_mod]
  show _ = (BitVec.ofNat 32 _).toNat
  rw [BitVec.toNat_ofNat]
  exact (Nat.mod_eq_of_lt (Nat.lt_of_le_of_lt (Nat.mod_le _ _) x.toBitVec.isLt)).symm
theorem pk_andN {n : Nat} (h : n < 2 ^ 32) {m : Int32} (k : Nat) (hm : m.toBitVec.toNat = 2 ^ k - 1) : nI n &&& m = nI (n % 2 ^ k) := by
  rw [pk_and _ k hm, pk_tn h]
theorem pk_shr (a s : Int32) (k : Nat) (hs : (s.toBitVec.smod 32).toNat = k) : (a >>> s).toInt = a.toInt >>> k := by
  show (a.toBitVec.sshiftRight (s.toBitVec.smod 32).toNat).toInt = _
  rw [hs, BitVec.toInt_sshiftRight]
  rfl
theorem pk_shrN {n : Nat} (h : n < 2 ^ 31) (s : Int32) (k : Nat) (hs : (s.toBitVec.smod 32).toNat = k) : nI n >>> s = nI (n / 2 ^ k) := by
  apply Int32.toInt_inj.mp
  have h2 : n / 2 ^ k ≤ n := Nat.div_le_self _ _
  rw [pk_shr _ _ k hs, nI_toInt h, nI_toInt (by omega), Int.shiftRight_eq_div_pow]
  rfl
theorem pk_vb (z : Int32) : vp_nar .byte z.toInt8.toInt32 = z.toInt8.toInt32 := by rw [vp_nar_byte]; simp
def bt (x : Int32) (i : Nat) : Bool := x.toBitVec.getLsbD i
theorem b_ext {x y : Int32} (h : ∀ i, i < 32 → bt x i = bt y i) : x = y := Int32.toBitVec_inj.mp (BitVec.eq_of_getLsbD_eq (fun i hi => h i hi))
theorem b_or (x y : Int32) (i : Nat) : bt (x ||| y) i = (bt x i || bt y i) := by unfold bt; rw [Int32.toBitVec_or, BitVec.getLsbD_or]
theorem b_and (x y : Int32) (i : Nat) : bt (x &&& y) i = (bt x i && bt y i) := by unfold bt; rw [Int32.toBitVec_and, BitVec.getLsbD_and]
theorem b_xor (x y : Int32) (i : Nat) : bt (x ^^^ y) i = (bt x i ^^ bt y i) := by unfold bt; rw [Int32.toBitVec_xor, BitVec.getLsbD_xor]
theorem b_big {x : Int32} {i : Nat} (h : 32 ≤ i) : bt x i = false := BitVec.getLsbD_of_ge _ _ h
theorem b_m1 : ∀ i, i < 32 → bt (-1) i = true := by decide +kernel
theorem b_0 (i : Nat) : bt 0 i = false := BitVec.getLsbD_zero
theorem s_l : ∀ n, n < 32 → ((nI n &&& 31).toBitVec.smod 32).toNat = n := by decide +kernel
theorem b_shl (n : Nat) (hn : n < 32) (x : Int32) {i : Nat} (hi : i < 32) : bt (x <<< (nI n &&& 31)) i = (decide (n ≤ i) && bt x (i - n)) := by
  unfold bt
  rw [Int32.toBitVec_shiftLeft]
  show (x.toBitVec <<< ((nI n &&& 31).toBitVec.smod 32).toNat).getLsbD i = _
  rw [s_l n hn, BitVec.getLsbD_shiftLeft]
  rcases Nat.lt_or_ge i n with h | h
  · simp [h, Nat.not_le.mpr h]
  · simp [hi, h, Nat.not_lt.mpr h]
theorem b_sshr (n : Nat) (hn : n < 32) (x : Int32) {i : Nat} (hi : i < 32) : bt (x >>> (nI n &&& 31)) i = if n + i < 32 then bt x (n + i) else bt x 31 := by
  unfold bt
  rw [Int32.toBitVec_shiftRight]
  show (x.toBitVec.sshiftRight ((nI n &&& 31).toBitVec.smod 32).toNat).getLsbD i = _
  rw [s_l n hn, BitVec.getLsbD_sshiftRight, BitVec.msb_eq_getLsbD_last]
  simp [hi]
theorem nf_sh : ∀ l, l < 32 → ((1 : Int32) <<< (nI l &&& 31)).toBitVec = BitVec.twoPow 32 l := by decide +kernel
theorem ts_nf {x : Bool} (h : ¬ x = false) : x = true := by cases x <;> first | rfl | exact absurd rfl h
theorem ts_nt {x : Bool} (h : ¬ x = true) : x = false := by cases x <;> first | rfl | exact absurd rfl h
theorem ts_bit {w : Int64} {s : UInt64} {j : Nat} (hj : j < 64) (hs : s.toNat = j) : ((w.toUInt64 >>> s).toInt64 &&& 1) = 0 ↔ w.toBitVec.getLsbD j = false := by
  have e : (w.toUInt64 >>> s).toInt64.toBitVec = w.toBitVec >>> j := by
    apply BitVec.eq_of_toNat_eq
    show (w.toUInt64 >>> s).toNat = _
    rw [UInt64.toNat_shiftRight, hs, Nat.mod_eq_of_lt hj, BitVec.toNat_ushiftRight]
    rfl
  rw [← Int64.toBitVec_inj, Int64.toBitVec_and, e]
  show w.toBitVec >>> j &&& 1#64 = 0#64 ↔ _
  constructor
  · intro h
    have t := congrArg (fun x => x.getLsbD 0) h
    simpa using t
  · intro h
    apply BitVec.eq_of_getLsbD_eq
    intro i hi
    cases i with
    | zero => simp [h]
    | succ i => simp
theorem wb_cu : ∀ k, k < 64 → ((nI k).toInt64.toUInt64 &&& Int64.toUInt64 63) = UInt64.ofNat k := by decide +kernel
theorem u_tn {n : Nat} (h : n < 2 ^ 64) : (UInt64.ofNat n).toNat = n := Nat.mod_eq_of_lt h
theorem ek_if {c d A B : Prop} (e : c ↔ d) (f : d → A) (g : ¬ d → B) : (c → A) ∧ (¬ c → B) :=
  ⟨fun z => f (e.mp z), fun z => g (fun y => z (e.mpr y))⟩
theorem pk_least (P : Nat → Prop) (h : ∃ k, P k) : ∃ k, P k ∧ ∀ j, j < k → ¬ P j := by
  obtain ⟨k, hk⟩ := h
  induction k using Nat.strongRecOn with
  | ind k ih =>
    by_cases e : ∃ j, j < k ∧ P j
    · obtain ⟨j, hj, pj⟩ := e
      exact ih j hj pj
    · exact ⟨k, hk, fun j hj pj => e ⟨j, hj, pj⟩⟩
end
section
/-! ===== all below n ===== -/
def fi_al (p : Nat → Bool) : Nat → Bool
  | 0 => true
  | n + 1 => fi_al p n && p n
theorem fi_al_s (p : Nat → Bool) (n : Nat) : fi_al p (n + 1) = (fi_al p n && p n) := rfl
theorem fi_al_iff {p : Nat → Bool} : ∀ {n : Nat}, fi_al p n = true ↔ ∀ i, i < n → p i = true := by
  intro n
  induction n with
  | zero => exact ⟨fun _ i hi => absurd hi (Nat.not_lt_zero i), fun _ => rfl⟩
  | succ n ih =>
    rw [fi_al_s, Bool.and_eq_true, ih]
    constructor
    · intro h i hi
      by_cases e : i = n
      · rw [e]; exact h.2
      · exact h.1 i (by omega)
    · intro h
      exact ⟨fun i hi => h i (by omega), h n (by omega)⟩
theorem fi_al_congr {p q : Nat → Bool} : ∀ {n : Nat}, (∀ i, i < n → p i = q i) → fi_al p n = fi_al q n := by
  intro n
  induction n with
  | zero => intro _; rfl
  | succ n ih =>
    intro h
    rw [fi_al_s, fi_al_s, ih (fun i hi => h i (by omega)), h n (by omega)]
theorem fi_al_dec {P : Nat → Prop} {n : Nat} (d : ∀ i, Decidable (P i)) : fi_al (fun i => @decide (P i) (d i)) n = true ↔ ∀ i, i < n → P i := by
  rw [fi_al_iff]
  exact ⟨fun h i hi => of_decide_eq_true (h i hi), fun h i hi => decide_eq_true (h i hi)⟩
/-! ===== how many different values ===== -/
def fi_nd (f : Nat → Int32) : Nat → Nat
  | 0 => 0
  | n + 1 => if fi_al (fun i => !decide (f i = f n)) n = true then fi_nd f n + 1 else fi_nd f n
theorem fi_nd_s (f : Nat → Int32) (n : Nat) : fi_nd f (n + 1) = if fi_al (fun i => !decide (f i = f n)) n = true then fi_nd f n + 1 else fi_nd f n := rfl
theorem fi_nd_new {f : Nat → Int32} {n : Nat} (h : ∀ i, i < n → f i ≠ f n) : fi_nd f (n + 1) = fi_nd f n + 1 := by
  rw [fi_nd_s]
  exact if_pos (fi_al_iff.mpr (fun i hi => by simp [h i hi]))
theorem fi_nd_old {f : Nat → Int32} {n i : Nat} (hi : i < n) (h : f i = f n) : fi_nd f (n + 1) = fi_nd f n := by
  rw [fi_nd_s]
  refine if_neg (fun z => ?_)
  have q := fi_al_iff.mp z i hi
  simp [h] at q
theorem fi_nd_mono (f : Nat → Int32) (n : Nat) : fi_nd f n ≤ fi_nd f (n + 1) := by
  rw [fi_nd_s]
  split <;> omega
theorem fi_nd_congr {f g : Nat → Int32} : ∀ {n : Nat}, (∀ i, i < n → f i = g i) → fi_nd f n = fi_nd g n := by
  intro n
  induction n with
  | zero => intro _; rfl
  | succ n ih =>
    intro h
    have e : fi_al (fun i => !decide (f i = f n)) n = fi_al (fun i => !decide (g i = g n)) n := fi_al_congr (fun i hi => by rw [h i (by omega), h n (by omega)])
    rw [fi_nd_s, fi_nd_s, ih (fun i hi => h i (by omega)), e]
theorem fi_nd_one {f : Nat → Int32} : ∀ {n : Nat}, 0 < n → (∀ i, i < n → f i = f 0) → fi_nd f n = 1 := by
  intro n
  induction n with
  | zero => intro h; omega
  | succ n ih =>
    intro _ h
    by_cases e : n = 0
    · subst e
      rw [fi_nd_new (fun i hi => absurd hi (Nat.not_lt_zero i))]; rfl
    · rw [fi_nd_old (i := 0) (by omega) (h n (by omega)).symm]
      exact ih (by omega) (fun i hi => h i (by omega))
theorem fi_nd_two {f : Nat → Int32} : ∀ {n : Nat}, (∃ i, i < n ∧ f i ≠ f 0) → 2 ≤ fi_nd f n := by
  intro n
  induction n with
  | zero => intro ⟨i, hi, _⟩; omega
  | succ n ih =>
    intro ⟨i, hi, hne⟩
    by_cases e : ∃ i, i < n ∧ f i ≠ f 0
    · exact Nat.le_trans (ih e) (fi_nd_mono f n)
    · have ha : ∀ j, j < n → f j = f 0 := fun j hj => Classical.byContradiction (fun z => e ⟨j, hj, z⟩)
      have hin : i = n := Classical.byContradiction (fun z => hne (ha i (by omega)))
      subst hin
      have hp : 0 < i := Nat.pos_of_ne_zero (fun z => hne (by rw [z]))
      rw [fi_nd_new (fun j hj => by rw [ha j hj]; exact fun z => hne z.symm), fi_nd_one hp ha]
      exact Nat.le_refl _
theorem fi_nd_all {f : Nat → Int32} {n : Nat} (h : fi_nd f n < 2) : ∀ i, i < n → f i = f 0 := by
  intro i hi
  refine Classical.byContradiction (fun z => ?_)
  have := fi_nd_two ⟨i, hi, z⟩
  omega
theorem fi_nd_ex {f : Nat → Int32} {n : Nat} (h : 2 ≤ fi_nd f n) : ∃ i, i < n ∧ f i ≠ f 0 := by
  refine Classical.byContradiction (fun z => ?_)
  have ha : ∀ j, j < n → f j = f 0 := fun j hj => Classical.byContradiction (fun y => z ⟨j, hj, y⟩)
  by_cases e : n = 0
  · subst e
    have : fi_nd f 0 = 0 := rfl
    omega
  · have := fi_nd_one (Nat.pos_of_ne_zero e) ha
    omega
theorem fi_nd_pos {f : Nat → Int32} {n : Nat} (h : 0 < n) : 1 ≤ fi_nd f n := by
  by_cases e : ∃ i, i < n ∧ f i ≠ f 0
  · have := fi_nd_two e
    omega
  · rw [fi_nd_one h (fun j hj => Classical.byContradiction (fun y => e ⟨j, hj, y⟩))]
    exact Nat.le_refl _
/-! ===== least and greatest ===== -/
def fi_mn (f : Nat → Int32) : Nat → Int32
  | 0 => f 0
  | n + 1 => if fi_mn f n ≤ f n then fi_mn f n else f n
def fi_mx (f : Nat → Int32) : Nat → Int32
  | 0 => f 0
  | n + 1 => if f n ≤ fi_mx f n then fi_mx f n else f n
theorem fi_mn_s (f : Nat → Int32) (n : Nat) : fi_mn f (n + 1) = if fi_mn f n ≤ f n then fi_mn f n else f n := rfl
theorem fi_mx_s (f : Nat → Int32) (n : Nat) : fi_mx f (n + 1) = if f n ≤ fi_mx f n then fi_mx f n else f n := rfl
theorem fi_mn_t {f : Nat → Int32} {n : Nat} (h : fi_mn f n ≤ f n) : fi_mn f (n + 1) = fi_mn f n := if_pos h
theorem fi_mn_f {f : Nat → Int32} {n : Nat} (h : ¬ fi_mn f n ≤ f n) : fi_mn f (n + 1) = f n := if_neg h
theorem fi_mx_t {f : Nat → Int32} {n : Nat} (h : f n ≤ fi_mx f n) : fi_mx f (n + 1) = fi_mx f n := if_pos h
theorem fi_mx_f {f : Nat → Int32} {n : Nat} (h : ¬ f n ≤ fi_mx f n) : fi_mx f (n + 1) = f n := if_neg h
theorem fi_mn_congr {f g : Nat → Int32} (h0 : f 0 = g 0) : ∀ {n : Nat}, (∀ i, i < n → f i = g i) → fi_mn f n = fi_mn g n := by
  intro n
  induction n with
  | zero => intro _; exact h0
  | succ n ih =>
    intro h
    rw [fi_mn_s, fi_mn_s, ih (fun i hi => h i (by omega)), h n (by omega)]
theorem fi_mx_congr {f g : Nat → Int32} (h0 : f 0 = g 0) : ∀ {n : Nat}, (∀ i, i < n → f i = g i) → fi_mx f n = fi_mx g n := by
  intro n
  induction n with
  | zero => intro _; exact h0
  | succ n ih =>
    intro h
    rw [fi_mx_s, fi_mx_s, ih (fun i hi => h i (by omega)), h n (by omega)]
theorem fi_mn_le {f : Nat → Int32} : ∀ {n : Nat} (i : Nat), i < n → fi_mn f n ≤ f i := by
  intro n
  induction n with
  | zero => intro i hi; omega
  | succ n ih =>
    intro i hi
    by_cases h : fi_mn f n ≤ f n
    · rw [fi_mn_t h]
      by_cases e : i = n
      · rw [e]; exact h
      · exact ih i (by omega)
    · rw [fi_mn_f h]
      by_cases e : i = n
      · rw [e]; exact Int32.le_refl _
      · have q := ih i (by omega)
        rw [Int32.le_iff_toInt_le] at h q ⊢
        omega
theorem fi_mx_ge {f : Nat → Int32} : ∀ {n : Nat} (i : Nat), i < n → f i ≤ fi_mx f n := by
  intro n
  induction n with
  | zero => intro i hi; omega
  | succ n ih =>
    intro i hi
    by_cases h : f n ≤ fi_mx f n
    · rw [fi_mx_t h]
      by_cases e : i = n
      · rw [e]; exact h
      · exact ih i (by omega)
    · rw [fi_mx_f h]
      by_cases e : i = n
      · rw [e]; exact Int32.le_refl _
      · have q := ih i (by omega)
        rw [Int32.le_iff_toInt_le] at h q ⊢
        omega
theorem fi_mn_const {f : Nat → Int32} : ∀ {n : Nat}, (∀ i, i < n → f i = f 0) → fi_mn f n = f 0 := by
  intro n
  induction n with
  | zero => intro _; rfl
  | succ n ih =>
    intro h
    have q := ih (fun i hi => h i (by omega))
    rw [fi_mn_s, q, h n (by omega), if_pos (Int32.le_refl _)]
theorem fi_mx_const {f : Nat → Int32} : ∀ {n : Nat}, (∀ i, i < n → f i = f 0) → fi_mx f n = f 0 := by
  intro n
  induction n with
  | zero => intro _; rfl
  | succ n ih =>
    intro h
    have q := ih (fun i hi => h i (by omega))
    rw [fi_mx_s, q, h n (by omega), if_pos (Int32.le_refl _)]
theorem fi_mnmx {f : Nat → Int32} {n : Nat} (hn : 0 < n) (h : fi_mn f n = fi_mx f n) : ∀ i, i < n → f i = f 0 := by
  have k : ∀ i, i < n → f i = fi_mn f n := by
    intro i hi
    have a := fi_mn_le (f := f) i hi
    have b := fi_mx_ge (f := f) i hi
    rw [← h] at b
    exact Int32.le_antisymm b a
  intro i hi
  rw [k i hi, k 0 hn]
/-! ===== greatest common divisor of the differences ===== -/
def fi_df (f : Nat → Int32) (i : Nat) : Nat := ((f i).toInt - (f 0).toInt).natAbs
def fi_gp (f : Nat → Int32) : Nat → Nat
  | 0 => 0
  | n + 1 => Nat.gcd (fi_gp f n) (fi_df f n)
theorem fi_gp_s (f : Nat → Int32) (n : Nat) : fi_gp f (n + 1) = Nat.gcd (fi_gp f n) (fi_df f n) := rfl
theorem fi_gp_congr {f g : Nat → Int32} (h0 : f 0 = g 0) : ∀ {n : Nat}, (∀ i, i < n → f i = g i) → fi_gp f n = fi_gp g n := by
  intro n
  induction n with
  | zero => intro _; rfl
  | succ n ih =>
    intro h
    have e : fi_df f n = fi_df g n := by unfold fi_df; rw [h n (by omega), h0]
    rw [fi_gp_s, fi_gp_s, ih (fun i hi => h i (by omega)), e]
theorem fi_gp_dvd {f : Nat → Int32} {d : Nat} : ∀ {n : Nat}, d ∣ fi_gp f n ↔ ∀ i, i < n → d ∣ fi_df f i := by
  intro n
  induction n with
  | zero => exact ⟨fun _ i hi => absurd hi (Nat.not_lt_zero i), fun _ => Nat.dvd_zero d⟩
  | succ n ih =>
    rw [fi_gp_s, Nat.dvd_gcd_iff, ih]
    constructor
    · intro h i hi
      by_cases e : i = n
      · rw [e]; exact h.2
      · exact h.1 i (by omega)
    · intro h
      exact ⟨fun i hi => h i (by omega), h n (by omega)⟩
theorem fi_gcd_le {a b c : Nat} (ha : a ≤ c) (hb : b ≤ c) : Nat.gcd a b ≤ c := by
  by_cases h : a = 0
  · rw [h, Nat.gcd_zero_left]; exact hb
  · exact Nat.le_trans (Nat.gcd_le_left b (Nat.pos_of_ne_zero h)) ha
theorem fi_gp_le {f : Nat → Int32} {c : Nat} : ∀ {n : Nat}, (∀ i, i < n → fi_df f i ≤ c) → fi_gp f n ≤ c := by
  intro n
  induction n with
  | zero => intro _; exact Nat.zero_le c
  | succ n ih =>
    intro h
    rw [fi_gp_s]
    exact fi_gcd_le (ih (fun i hi => h i (by omega))) (h n (by omega))
theorem fi_df0 {f : Nat → Int32} {i : Nat} (h : fi_df f i = 0) : f i = f 0 := by
  unfold fi_df at h
  apply Int32.toInt_inj.mp
  omega
theorem fi_gp_pos {f : Nat → Int32} {n i : Nat} (hi : i < n) (h : f i ≠ f 0) : 0 < fi_gp f n := by
  refine Nat.pos_of_ne_zero (fun z => h (fi_df0 ?_))
  have q : fi_gp f n ∣ fi_df f i := fi_gp_dvd.mp (Nat.dvd_refl _) i hi
  rw [z] at q
  exact Nat.eq_zero_of_zero_dvd q
theorem fi_gp_0 {f : Nat → Int32} {n : Nat} (h : ∀ i, i < n → f i = f 0) : fi_gp f n = 0 := by
  have q : 0 ∣ fi_gp f n := fi_gp_dvd.mpr (fun i hi => by
    have : fi_df f i = 0 := by unfold fi_df; rw [h i hi]; omega
    rw [this]; exact Nat.dvd_refl 0)
  exact Nat.eq_zero_of_zero_dvd q
/-! ===== Euclid's steps ===== -/
theorem fi_gcd_step (m n : Nat) : Nat.gcd m n = Nat.gcd n (m % n) := by
  rw [Nat.gcd_comm m n, Nat.gcd_rec n m]
  exact Nat.gcd_comm _ _
theorem fi_mod_half {n a : Nat} (h0 : 0 < a) (h : a < n) : 2 * (n % a) < n := by
  have h1 := Nat.div_add_mod n a
  have h2 := Nat.mod_lt n h0
  have h3 : 1 ≤ n / a := Nat.div_pos (by omega) h0
  have h4 : a * 1 ≤ a * (n / a) := Nat.mul_le_mul_left a h3
  omega
end
section
/-! ===== Int32 against Int ===== -/
theorem fi_abs_pos {a : Int32} (h : 0 ≤ a) : a = nI a.toInt.natAbs := by
  have h0 := Jvm.Kit.i32_nonneg.mp h
  have h1 := a.toInt_lt
  apply Int32.toInt_inj.mp
  rw [nI_toInt (by omega)]
  omega
theorem fi_abs_neg {a : Int32} (h : ¬ 0 ≤ a) (hm : a.toInt ≠ -2 ^ 31) : -a = nI a.toInt.natAbs := by
  have h0 : ¬ 0 ≤ a.toInt := fun z => h (Jvm.Kit.i32_nonneg.mpr z)
  have h1 := a.le_toInt
  apply Int32.toInt_inj.mp
  rw [Jvm.Kit.i32_neg hm, nI_toInt (by omega)]
  omega
def fi_ok (x : Int32) : Prop := -100 ≤ x.toInt ∧ x.toInt ≤ 100
theorem fi_sub {x y : Int32} (hx : fi_ok x) (hy : fi_ok y) : (x - y).toInt = x.toInt - y.toInt := by
  unfold fi_ok at hx hy
  exact Jvm.Kit.i32_sub (by omega) (by omega)
theorem fi_subA {x y : Int32} (hx : fi_ok x) (hy : fi_ok y) : (x - y).toInt.natAbs ≤ 200 := by
  rw [fi_sub hx hy]
  unfold fi_ok at hx hy
  omega
theorem fi_sub0 {x y : Int32} : x - y = 0 ↔ x = y := by
  constructor
  · intro h
    have e := Int32.sub_add_cancel x y
    rw [h, Int32.zero_add] at e
    exact e.symm
  · intro h
    rw [h]
    exact Int32.sub_self y
theorem fi_ne0 {x : Int32} (h : x ≠ 0) : x.toInt ≠ 0 := fun z => h (Int32.toInt_inj.mp (by rw [z]; rfl))
/-! ===== remainders ===== -/
theorem fi_tm {w M : Int} : (w.tmod M + M) % M = w % M := by
  rw [Int.add_emod_right, Int.tmod_def, Int.sub_mul_emod_self_left]
theorem fi_mod {v m : Int32} (h2 : 2 ≤ m.toInt) (h3 : m.toInt ≤ 200) : (((v - v / m * m) + m) - ((v - v / m * m) + m) / m * m).toInt = v.toInt % m.toInt := by
  have t := tmod_bounds (a := v.toInt) (M := m.toInt) (by omega)
  have e1 : ((v - v / m * m) + m).toInt = v.toInt.tmod m.toInt + m.toInt := by
    rw [Jvm.Kit.i32_add (by rw [rem_toInt]; omega) (by rw [rem_toInt]; omega), rem_toInt]
  rw [rem_toInt, e1, Int.tmod_eq_emod_of_nonneg (by omega), fi_tm]
theorem fi_rem_t {v m : Int32} (h2 : 2 ≤ m.toInt) (h3 : m.toInt ≤ 200) (h : 0 ≤ v - v / m * m) : (v - v / m * m).toInt = v.toInt % m.toInt := by
  have t := tmod_bounds (a := v.toInt) (M := m.toInt) (by omega)
  have h0 := Jvm.Kit.i32_nonneg.mp h
  rw [rem_toInt] at h0 ⊢
  rw [← fi_tm, Int.add_emod_right, Int.emod_eq_of_lt h0 t.2]
theorem fi_rem_f {v m : Int32} (h2 : 2 ≤ m.toInt) (h3 : m.toInt ≤ 200) (h : ¬ 0 ≤ v - v / m * m) : (v - v / m * m + m).toInt = v.toInt % m.toInt := by
  have t := tmod_bounds (a := v.toInt) (M := m.toInt) (by omega)
  have h0 : ¬ 0 ≤ (v - v / m * m).toInt := fun z => h (Jvm.Kit.i32_nonneg.mpr z)
  rw [rem_toInt] at h0
  rw [Jvm.Kit.i32_add (by rw [rem_toInt]; omega) (by rw [rem_toInt]; omega), rem_toInt]
  rw [← fi_tm, Int.emod_eq_of_lt (by omega) (by omega)]
theorem fi_mod_dvd {x y : Int} {m : Nat} : x % (m : Int) = y % (m : Int) ↔ m ∣ (x - y).natAbs := by
  rw [Int.emod_eq_emod_iff_emod_sub_eq_zero, ← Int.dvd_iff_emod_eq_zero, Int.ofNat_dvd_left]
/-! ===== the least p, q of a line ===== -/
def fi_pp (a b : Int) : Nat := a.natAbs / Nat.gcd a.natAbs b.natAbs
def fi_qq (a b : Int) : Int := (a.sign * b).tdiv (Nat.gcd a.natAbs b.natAbs : Nat)
theorem fi_gpos {a : Int} (b : Int) (ha : a ≠ 0) : 0 < Nat.gcd a.natAbs b.natAbs := Nat.gcd_pos_of_pos_left _ (by omega)
theorem fi_pp_g (a b : Int) : fi_pp a b * Nat.gcd a.natAbs b.natAbs = a.natAbs := Nat.div_mul_cancel (Nat.gcd_dvd_left _ _)
theorem fi_qq_g (a b : Int) : fi_qq a b * (Nat.gcd a.natAbs b.natAbs : Nat) = a.sign * b := by
  unfold fi_qq
  exact Int.tdiv_mul_cancel (Int.dvd_mul_of_dvd_right (Int.ofNat_dvd_left.mpr (Nat.gcd_dvd_right _ _)))
theorem fi_pq {a b : Int} (ha : a ≠ 0) : fi_qq a b * a = (fi_pp a b : Nat) * b := by
  have hg := fi_gpos b ha
  have h1 := fi_qq_g a b
  have h2 : ((fi_pp a b : Nat) : Int) * (Nat.gcd a.natAbs b.natAbs : Nat) = (a.natAbs : Nat) := by
    rw [← Int.natCast_mul, fi_pp_g]
  have h3 : a * a.sign = (a.natAbs : Nat) := Int.mul_sign_self a
  generalize ((fi_pp a b : Nat) : Int) = p at h2 ⊢
  generalize fi_qq a b = q at h1 ⊢
  generalize hG : ((Nat.gcd a.natAbs b.natAbs : Nat) : Int) = g at h1 h2
  have hg' : g ≠ 0 := by omega
  apply Int.eq_of_mul_eq_mul_right hg'
  calc q * a * g = q * g * a := by rw [Int.mul_right_comm]
    _ = a.sign * b * a := by rw [h1]
    _ = a * a.sign * b := by rw [Int.mul_comm (a.sign * b) a, Int.mul_assoc]
    _ = p * g * b := by rw [h3, h2]
    _ = p * b * g := by rw [Int.mul_right_comm]
theorem fi_pp_le (a b : Int) : fi_pp a b ≤ a.natAbs := Nat.div_le_self _ _
theorem fi_pp_pos {a : Int} (b : Int) (ha : a ≠ 0) : 0 < fi_pp a b := by
  refine Nat.pos_of_ne_zero (fun z => ?_)
  have h := fi_pp_g a b
  rw [z, Nat.zero_mul] at h
  omega
theorem fi_qq_le (a b : Int) : (fi_qq a b).natAbs ≤ b.natAbs := by
  have h := Int.natAbs_tdiv_le_natAbs (a.sign * b) (Nat.gcd a.natAbs b.natAbs : Nat)
  have h2 : (a.sign * b).natAbs ≤ b.natAbs := by
    rcases Int.sign_trichotomy a with e | e | e <;> rw [e] <;> omega
  exact Nat.le_trans h h2
theorem fi_qq_ne {a b : Int} (ha : a ≠ 0) (hb : b ≠ 0) : fi_qq a b ≠ 0 := by
  intro z
  have h := fi_qq_g a b
  rw [z, Int.zero_mul] at h
  have : a.sign = 1 ∨ a.sign = -1 := by
    rcases Int.lt_or_gt_of_ne ha with q | q
    · exact Or.inr (Int.sign_eq_neg_one_of_neg q)
    · exact Or.inl (Int.sign_eq_one_of_pos q)
  rcases this with e | e <;> rw [e] at h <;> omega
theorem fi_qq_0 (a : Int) : fi_qq a 0 = 0 := by
  unfold fi_qq
  rw [Int.mul_zero, Int.zero_tdiv]
theorem fi_pp_dvd {a b : Int} (ha : a ≠ 0) (k : Nat) : a ∣ (k : Int) * b ↔ fi_pp a b ∣ k := by
  have hg := fi_gpos b ha
  have h1 := fi_pp_g a b
  have h2 : b.natAbs / Nat.gcd a.natAbs b.natAbs * Nat.gcd a.natAbs b.natAbs = b.natAbs := Nat.div_mul_cancel (Nat.gcd_dvd_right _ _)
  have h3 : Nat.Coprime (fi_pp a b) (b.natAbs / Nat.gcd a.natAbs b.natAbs) := Nat.coprime_div_gcd_div_gcd hg
  rw [← Int.natAbs_dvd_natAbs, Int.natAbs_mul, Int.natAbs_natCast]
  generalize b.natAbs / Nat.gcd a.natAbs b.natAbs = B at h2 h3
  generalize fi_pp a b = p at h1 h3 ⊢
  generalize Nat.gcd a.natAbs b.natAbs = g at hg h1 h2
  rw [← h1, ← h2, ← Nat.mul_assoc]
  constructor
  · intro h
    exact h3.dvd_of_dvd_mul_right (Nat.dvd_of_mul_dvd_mul_right hg h)
  · intro h
    exact Nat.mul_dvd_mul_right (Nat.dvd_mul_right_of_dvd h B) g
/-- p and q as ints -/
def fi_p (a b : Int32) : Int32 := nI (fi_pp a.toInt b.toInt)
def fi_q (a b : Int32) : Int32 := Int32.ofInt (fi_qq a.toInt b.toInt)
theorem fi_p_toInt {a b : Int32} (ha : a.toInt.natAbs ≤ 200) : (fi_p a b).toInt = (fi_pp a.toInt b.toInt : Nat) := by
  have h := fi_pp_le a.toInt b.toInt
  exact nI_toInt (by omega)
theorem fi_q_toInt {a b : Int32} (hb : b.toInt.natAbs ≤ 200) : (fi_q a b).toInt = fi_qq a.toInt b.toInt := by
  have h := fi_qq_le a.toInt b.toInt
  exact Int32.toInt_ofInt_of_le (by omega) (by omega)
theorem fi_qa {a b : Int32} (h0 : a ≠ 0) (ha : a.toInt.natAbs ≤ 200) (hb : b.toInt.natAbs ≤ 200) : fi_q a b * a = fi_p a b * b := by
  apply Int32.toInt_inj.mp
  rw [Int32.toInt_mul, Int32.toInt_mul, fi_q_toInt hb, fi_p_toInt ha, fi_pq (fi_ne0 h0)]
theorem fi_sg {s b : Int32} {t : Int} (hs : s.toInt = t.sign) (hb : b.toInt.natAbs ≤ 200) : (s * b).toInt = t.sign * b.toInt := by
  rw [← hs]
  have h : s.toInt = 1 ∨ s.toInt = 0 ∨ s.toInt = -1 := by rw [hs]; exact Int.sign_trichotomy t
  refine Jvm.Kit.i32_mul ?_ ?_ <;> (rcases h with h | h | h <;> rw [h] <;> omega)
theorem fi_drawp {s a b : Int32} (hs : s.toInt = a.toInt.sign) (h0 : a ≠ 0) (ha : a.toInt.natAbs ≤ 200) : (s * a) / nI (Nat.gcd a.toInt.natAbs b.toInt.natAbs) = fi_p a b := by
  have e : s * a = nI a.toInt.natAbs := by
    apply Int32.toInt_inj.mp
    rw [fi_sg hs ha, nI_toInt (by omega)]
    exact Int.sign_mul_self _
  have hg := fi_gpos b.toInt (fi_ne0 h0)
  have hl : Nat.gcd a.toInt.natAbs b.toInt.natAbs ≤ a.toInt.natAbs := Nat.gcd_le_left _ (by have := fi_ne0 h0; omega)
  rw [e, pk_div (by omega) hg (by omega)]
  rfl
theorem fi_drawq {s a b : Int32} (hs : s.toInt = a.toInt.sign) (h0 : a ≠ 0) (ha : a.toInt.natAbs ≤ 200) (hb : b.toInt.natAbs ≤ 200) : (s * b) / nI (Nat.gcd a.toInt.natAbs b.toInt.natAbs) = fi_q a b := by
  have hg := fi_gpos b.toInt (fi_ne0 h0)
  have hl : Nat.gcd a.toInt.natAbs b.toInt.natAbs ≤ a.toInt.natAbs := Nat.gcd_le_left _ (by have := fi_ne0 h0; omega)
  have hn : (nI (Nat.gcd a.toInt.natAbs b.toInt.natAbs)).toInt = (Nat.gcd a.toInt.natAbs b.toInt.natAbs : Nat) := nI_toInt (by omega)
  apply Int32.toInt_inj.mp
  rw [Jvm.Kit.i32_div (by rw [hn]; omega), fi_sg hs hb, hn, fi_q_toInt hb]
  rfl
theorem fi_kmul {k : Nat} {b : Int32} (hk : k ≤ 200) (hb : b.toInt.natAbs ≤ 200) : (nI k * b).toInt = (k : Int) * b.toInt := by
  have h1 : (nI k).toInt = (k : Int) := nI_toInt (by omega)
  have h2 : ((k : Int) * b.toInt).natAbs ≤ 200 * 200 := by
    rw [Int.natAbs_mul, Int.natAbs_natCast]
    exact Nat.mul_le_mul hk hb
  rw [Jvm.Kit.i32_mul (by rw [h1]; omega) (by rw [h1]; omega), h1]
theorem fi_kdvd {k : Nat} {a b : Int32} (hk : k ≤ 200) (h0 : a ≠ 0) (hb : b.toInt.natAbs ≤ 200) : nI k * b - nI k * b / a * a = 0 ↔ fi_pp a.toInt b.toInt ∣ k := by
  rw [← fi_pp_dvd (fi_ne0 h0), ← Int32.toInt_inj, rem_toInt, fi_kmul hk hb]
  show _ = 0 ↔ _
  exact ⟨Int.dvd_of_tmod_eq_zero, Int.tmod_eq_zero_of_dvd⟩
theorem fi_kq {a b : Int32} (h0 : a ≠ 0) (ha : a.toInt.natAbs ≤ 200) (hb : b.toInt.natAbs ≤ 200) : nI (fi_pp a.toInt b.toInt) * b / a = fi_q a b := by
  have h := fi_pp_le a.toInt b.toInt
  have e := fi_kmul (k := fi_pp a.toInt b.toInt) (by omega) hb
  have hr := fi_qq_le a.toInt b.toInt
  apply Int32.toInt_inj.mp
  have h2 : ((fi_pp a.toInt b.toInt : Int) * b.toInt).natAbs ≤ 200 * 200 := by
    rw [Int.natAbs_mul, Int.natAbs_natCast]
    exact Nat.mul_le_mul (by omega) hb
  rw [Jvm.Kit.i32_div (by rw [e]; omega), e, ← fi_pq (fi_ne0 h0), Int.mul_tdiv_cancel _ (fi_ne0 h0), fi_q_toInt hb]
theorem fi_p_pos {a b : Int32} (h0 : a ≠ 0) (ha : a.toInt.natAbs ≤ 200) : ¬ fi_p a b ≤ 0 := by
  have h := fi_pp_le a.toInt b.toInt
  exact nI_nle (fi_pp_pos _ (fi_ne0 h0)) (by omega)
theorem fi_q_ne {a b : Int32} (h0 : a ≠ 0) (h1 : b ≠ 0) (hb : b.toInt.natAbs ≤ 200) : ¬ fi_q a b = 0 := by
  intro z
  have e := fi_q_toInt (a := a) hb
  rw [z] at e
  exact fi_qq_ne (fi_ne0 h0) (fi_ne0 h1) e.symm
theorem fi_q_0 (a : Int32) : fi_q a 0 = 0 := by
  unfold fi_q
  rw [Int32.toInt_zero, fi_qq_0]
  rfl
/-- times p is one to one on the values -/
theorem fi_p_inj {a b y z : Int32} (h0 : a ≠ 0) (ha : a.toInt.natAbs ≤ 200) (hy : fi_ok y) (hz : fi_ok z) (h : fi_p a b * y = fi_p a b * z) : y = z := by
  have hp := fi_pp_pos b.toInt (fi_ne0 h0)
  have hl := fi_pp_le a.toInt b.toInt
  unfold fi_ok at hy hz
  have e1 : (fi_p a b * y).toInt = (fi_pp a.toInt b.toInt : Nat) * y.toInt := fi_kmul (k := fi_pp a.toInt b.toInt) (b := y) (by omega) (by omega)
  have e2 : (fi_p a b * z).toInt = (fi_pp a.toInt b.toInt : Nat) * z.toInt := fi_kmul (k := fi_pp a.toInt b.toInt) (b := z) (by omega) (by omega)
  rw [h, e2] at e1
  apply Int32.toInt_inj.mp
  exact (Int.eq_of_mul_eq_mul_left (by omega) e1).symm
end
section
/-! ===== the facts of a variable, of a pair, of the sums; the relation ===== -/
/-- up to three different values in order, or more than three -/
def fi_D (f : Nat → Int32) (n : Nat) (sc : Int32) (s : Nat → Int32) : Prop :=
  ∃ c : Nat, sc = nI c ∧ c = min 4 (fi_nd f n) ∧ (c ≤ 3 → (∀ j, j + 1 < c → s j < s (j + 1)) ∧ (∀ i, i < n → ∃ j, j < c ∧ s j = f i) ∧ (∀ j, j < c → ∃ i, i < n ∧ f i = s j))
def fi_V (f : Nat → Int32) (n : Nat) (fi le gr ga sc : Int32) (s : Nat → Int32) : Prop :=
  (0 < n → fi = f 0 ∧ le = fi_mn f n ∧ gr = fi_mx f n ∧ ga = nI (fi_gp f n)) ∧ fi_D f n sc s
def fi_same (f g : Nat → Int32) (o : Nat) : Prop := ∀ i, i < o → f i = f 0 ∧ g i = g 0
def fi_lp (f g : Nat → Int32) (o : Nat) : Int32 := fi_p (f o - f 0) (g o - g 0)
def fi_lq (f g : Nat → Int32) (o : Nat) : Int32 := fi_q (f o - f 0) (g o - g 0)
def fi_lr (f g : Nat → Int32) (o : Nat) : Int32 := fi_lp f g o * g o - fi_lq f g o * f o
def fi_on (f g : Nat → Int32) (o n : Nat) : Prop := ∀ i, i < n → fi_lp f g o * g i = fi_lq f g o * f i + fi_lr f g o
def fi_L (f g : Nat → Int32) (n : Nat) (st p q r : Int32) : Prop :=
  (n = 0 ∧ st = 0) ∨
  (0 < n ∧ st = 1 ∧ p = f 0 ∧ q = g 0 ∧ fi_same f g n) ∨
  (st = 2 ∧ ∃ o, o < n ∧ fi_same f g o ∧ f o ≠ f 0 ∧ g o ≠ g 0 ∧ p = fi_lp f g o ∧ q = fi_lq f g o ∧ r = fi_lr f g o ∧ fi_on f g o n) ∨
  (st = 3 ∧ ∃ o, o < n ∧ fi_same f g o ∧ ((f o ≠ f 0 ∧ g o = g 0) ∨ (f o = f 0 ∧ g o ≠ g 0) ∨ (f o ≠ f 0 ∧ g o ≠ g 0 ∧ ¬ fi_on f g o n)))
def fi_P (f g : Nat → Int32) (n : Nat) (nl gr ul al ab : Bool) (st p q r aw : Int32) : Prop :=
  nl = !fi_al (fun i => decide (f i < g i)) n ∧
  gr = !fi_al (fun i => decide (f i ≤ g i)) n ∧
  ul = !fi_al (fun i => decide (f i = g i)) n ∧
  al = !fi_al (fun i => !decide (f i = g i)) n ∧
  ab = !fi_al (fun i => decide (g i = f i + (g 0 - f 0))) n ∧
  (0 < n → aw = g 0 - f 0) ∧
  fi_L f g n st p q r
def fi_col (V : Nat → Int32) (x : Nat) : Nat → Int32 := fun i => V (4 * i + x)
def fi_sm (V : Nat → Int32) (j : Nat) : Nat → Bool := fun i => decide (V (4 * i + j / 16) + V (4 * i + j / 4 % 4) = V (4 * i + j % 4))
def fi_S (V : Nat → Int32) (n : Nat) (F : Int64) (j : Nat) : Prop := F.toBitVec.getLsbD j = !fi_al (fi_sm V j) n
/-- all variables, each at its own count, and all pairs, each at its own -/
def fi_W (V : Nat → Int32) (cv cp : Nat → Nat) (f_count : Int32) (f_notLess : Int32) (f_greater : Int32) (f_unlike : Int32) (f_alike : Int32) (f_awayBroken : Int32) (f_sumBroken : Int64) (a_now : (Nat → Int32)) (a_first : (Nat → Int32)) (a_least : (Nat → Int32)) (a_greatest : (Nat → Int32)) (a_gap : (Nat → Int32)) (a_some : (Nat → Int32)) (a_someCount : (Nat → Int32)) (a_lineState : (Nat → Int32)) (a_lineP : (Nat → Int32)) (a_lineQ : (Nat → Int32)) (a_lineR : (Nat → Int32)) (a_away : (Nat → Int32)) : Prop :=
  (∀ x, x < 4 → fi_V (fi_col V x) (cv x) (a_first x) (a_least x) (a_greatest x) (a_gap x) (a_someCount x) (fun j => a_some (x * 4 + j))) ∧
  (∀ x y, x < 4 → y < 4 → x ≠ y → fi_P (fi_col V x) (fi_col V y) (cp (4 * x + y)) (bt f_notLess (4 * x + y)) (bt f_greater (4 * x + y)) (bt f_unlike (4 * x + y)) (bt f_alike (4 * x + y)) (bt f_awayBroken (4 * x + y)) (a_lineState (4 * x + y)) (a_lineP (4 * x + y)) (a_lineQ (4 * x + y)) (a_lineR (4 * x + y)) (a_away (4 * x + y)))
def fi_R (n : Nat) (V : Nat → Int32) (f_count : Int32) (f_notLess : Int32) (f_greater : Int32) (f_unlike : Int32) (f_alike : Int32) (f_awayBroken : Int32) (f_sumBroken : Int64) (a_now : (Nat → Int32)) (a_first : (Nat → Int32)) (a_least : (Nat → Int32)) (a_greatest : (Nat → Int32)) (a_gap : (Nat → Int32)) (a_some : (Nat → Int32)) (a_someCount : (Nat → Int32)) (a_lineState : (Nat → Int32)) (a_lineP : (Nat → Int32)) (a_lineQ : (Nat → Int32)) (a_lineR : (Nat → Int32)) (a_away : (Nat → Int32)) : Prop :=
  n ≤ 100 ∧ f_count = nI n ∧ (∀ i x, i < n → x < 4 → fi_ok (V (4 * i + x))) ∧ fi_W V (fun _ => n) (fun _ => n) f_count f_notLess f_greater f_unlike f_alike f_awayBroken f_sumBroken a_now a_first a_least a_greatest a_gap a_some a_someCount a_lineState a_lineP a_lineQ a_lineR a_away ∧ (∀ j, j < 64 → fi_S V n f_sumBroken j)
def i_Rel (k : Nat) (u : SX) (v : SY) : Prop := match u, v with
  | (f_count, f_notLess, f_greater, f_unlike, f_alike, f_awayBroken, f_sumBroken, a_now, a_first, a_least, a_greatest, a_gap, a_some, a_someCount, a_lineState, a_lineP, a_lineQ, a_lineR, a_away), (f_size, f_p, f_q, f_r, a_values, a_few) => ∃ n, f_size = nI n ∧ fi_R n a_values f_count f_notLess f_greater f_unlike f_alike f_awayBroken f_sumBroken a_now a_first a_least a_greatest a_gap a_some a_someCount a_lineState a_lineP a_lineQ a_lineR a_away
theorem i_up {k : Nat} {u : SX} {v : SY} (h : i_Rel k u v) : i_Rel (k + 5) u v := h
/-! ===== what holds of the first n samples doesn't look beyond them ===== -/
theorem fi_D_congr {f g : Nat → Int32} {n : Nat} {sc : Int32} {s : Nat → Int32} (h : ∀ i, i < n → f i = g i) (D : fi_D f n sc s) : fi_D g n sc s := by
  obtain ⟨c, h1, h2, h3⟩ := D
  refine ⟨c, h1, by rw [h2, fi_nd_congr h], fun hc => ?_⟩
  obtain ⟨a, b, d⟩ := h3 hc
  refine ⟨a, fun i hi => ?_, fun j hj => ?_⟩
  · obtain ⟨j, hj, e⟩ := b i hi
    exact ⟨j, hj, by rw [e, h i hi]⟩
  · obtain ⟨i, hi, e⟩ := d j hj
    exact ⟨i, hi, by rw [← e, h i hi]⟩
theorem fi_V_congr {f g : Nat → Int32} {n : Nat} {fi le gr ga sc : Int32} {s : Nat → Int32} (h : ∀ i, i < n → f i = g i) (D : fi_V f n fi le gr ga sc s) : fi_V g n fi le gr ga sc s := by
  refine ⟨fun hn => ?_, fi_D_congr h D.2⟩
  obtain ⟨a, b, c, d⟩ := D.1 hn
  have h0 := h 0 hn
  exact ⟨by rw [a, h0], by rw [b, fi_mn_congr h0 h], by rw [c, fi_mx_congr h0 h], by rw [d, fi_gp_congr h0 h]⟩
theorem fi_L_congr {f g F G : Nat → Int32} {n : Nat} {st p q r : Int32} (h : ∀ i, i < n → f i = F i) (k : ∀ i, i < n → g i = G i) (L : fi_L f g n st p q r) : fi_L F G n st p q r := by
  have hs : ∀ o, 0 < n → o ≤ n → fi_same f g o → fi_same F G o := by
    intro o hn ho H i hi
    have e := H i hi
    rw [h i (by omega), k i (by omega), h 0 hn, k 0 hn] at e
    exact e
  have hp : ∀ o, o < n → fi_lp f g o = fi_lp F G o := by
    intro o ho
    unfold fi_lp
    rw [h o ho, k o ho, h 0 (by omega), k 0 (by omega)]
  have hq : ∀ o, o < n → fi_lq f g o = fi_lq F G o := by
    intro o ho
    unfold fi_lq
    rw [h o ho, k o ho, h 0 (by omega), k 0 (by omega)]
  have hr : ∀ o, o < n → fi_lr f g o = fi_lr F G o := by
    intro o ho
    unfold fi_lr
    rw [hp o ho, hq o ho, h o ho, k o ho]
  have ho : ∀ o, o < n → (fi_on f g o n ↔ fi_on F G o n) := by
    intro o ho
    unfold fi_on
    constructor
    · intro H i hi
      rw [← hp o ho, ← hq o ho, ← hr o ho, ← h i hi, ← k i hi]
      exact H i hi
    · intro H i hi
      rw [hp o ho, hq o ho, hr o ho, h i hi, k i hi]
      exact H i hi
  rcases L with ⟨a, b⟩ | ⟨a, b, c, d, e⟩ | ⟨a, o, b, c, d, e, e1, e2, e3, e4⟩ | ⟨a, o, b, c, d⟩
  · exact Or.inl ⟨a, b⟩
  · exact Or.inr (Or.inl ⟨a, b, by rw [c, h 0 a], by rw [d, k 0 a], hs n a (Nat.le_refl n) e⟩)
  · refine Or.inr (Or.inr (Or.inl ⟨a, o, b, hs o (by omega) (by omega) c, ?_, ?_, by rw [e1, hp o b], by rw [e2, hq o b], by rw [e3, hr o b], (ho o b).mp e4⟩))
    · rw [← h o b, ← h 0 (by omega)]; exact d
    · rw [← k o b, ← k 0 (by omega)]; exact e
  · refine Or.inr (Or.inr (Or.inr ⟨a, o, b, hs o (by omega) (by omega) c, ?_⟩))
    rw [← h o b, ← h 0 (by omega), ← k o b, ← k 0 (by omega), ← ho o b]
    exact d
theorem fi_P_congr {f g F G : Nat → Int32} {n : Nat} {nl gr ul al ab : Bool} {st p q r aw : Int32} (h : ∀ i, i < n → f i = F i) (k : ∀ i, i < n → g i = G i) (H : fi_P f g n nl gr ul al ab st p q r aw) : fi_P F G n nl gr ul al ab st p q r aw := by
  obtain ⟨a, b, c, d, e, w, l⟩ := H
  refine ⟨?_, ?_, ?_, ?_, ?_, ?_, fi_L_congr h k l⟩
  · rw [a]; exact congrArg (!·) (fi_al_congr (fun i hi => by rw [h i hi, k i hi]))
  · rw [b]; exact congrArg (!·) (fi_al_congr (fun i hi => by rw [h i hi, k i hi]))
  · rw [c]; exact congrArg (!·) (fi_al_congr (fun i hi => by rw [h i hi, k i hi]))
  · rw [d]; exact congrArg (!·) (fi_al_congr (fun i hi => by rw [h i hi, k i hi]))
  · rw [e]; exact congrArg (!·) (fi_al_congr (fun i hi => by rw [h i hi, k i hi, h 0 (by omega), k 0 (by omega)]))
  · intro hn
    rw [w hn, h 0 hn, k 0 hn]
theorem fi_S_congr {V U : Nat → Int32} {n : Nat} {F : Int64} {j : Nat} (hj : j < 64) (h : ∀ i x, i < n → x < 4 → V (4 * i + x) = U (4 * i + x)) (H : fi_S V n F j) : fi_S U n F j := by
  unfold fi_S at H ⊢
  rw [H]
  refine congrArg (!·) (fi_al_congr (fun i hi => ?_))
  unfold fi_sm
  rw [h i (j / 16) hi (by omega), h i (j / 4 % 4) hi (by omega), h i (j % 4) hi (by omega)]
theorem fi_W_congr {V U : Nat → Int32} {n : Nat} {f_count : Int32} {f_notLess : Int32} {f_greater : Int32} {f_unlike : Int32} {f_alike : Int32} {f_awayBroken : Int32} {f_sumBroken : Int64} {a_now : (Nat → Int32)} {a_first : (Nat → Int32)} {a_least : (Nat → Int32)} {a_greatest : (Nat → Int32)} {a_gap : (Nat → Int32)} {a_some : (Nat → Int32)} {a_someCount : (Nat → Int32)} {a_lineState : (Nat → Int32)} {a_lineP : (Nat → Int32)} {a_lineQ : (Nat → Int32)} {a_lineR : (Nat → Int32)} {a_away : (Nat → Int32)} (h : ∀ i x, i < n → x < 4 → V (4 * i + x) = U (4 * i + x)) (H : fi_W V (fun _ => n) (fun _ => n) f_count f_notLess f_greater f_unlike f_alike f_awayBroken f_sumBroken a_now a_first a_least a_greatest a_gap a_some a_someCount a_lineState a_lineP a_lineQ a_lineR a_away) : fi_W U (fun _ => n) (fun _ => n) f_count f_notLess f_greater f_unlike f_alike f_awayBroken f_sumBroken a_now a_first a_least a_greatest a_gap a_some a_someCount a_lineState a_lineP a_lineQ a_lineR a_away :=
  ⟨fun x hx => fi_V_congr (fun i hi => h i x hi hx) (H.1 x hx), fun x y hx hy hn => fi_P_congr (fun i hi => h i x hi hx) (fun i hi => h i y hi hy) (H.2 x y hx hy hn)⟩
end
section
/-! ===== divisor ===== -/
theorem fi_dv (post : Int32 → Prop) : ∀ (t m n r k : Nat), n < 2 ^ t → m < 2 ^ 30 → n < 2 ^ 30 → r + 2 * t ≤ 24 → 2 * t < k → post (nI (Nat.gcd m n)) → wX_divisor_25 post k (nI m) (nI n) (nI r) := by
  intro t
  induction t with
  | zero =>
    intro m n r k hn hm hn' hr hk hp
    obtain ⟨k, rfl⟩ : ∃ j, k = j + 1 := ⟨k - 1, by omega⟩
    have hz : n = 0 := by
      have : n < 1 := hn
      omega
    subst hz
    rw [Nat.gcd_zero_right] at hp
    exact br_c (fun _ => hp) (fun _ => br_t nI_0 hp)
  | succ t ih =>
    intro m n r k hn hm hn' hr hk hp
    obtain ⟨k, rfl⟩ : ∃ j, k = j + 1 + 1 := ⟨k - 2, by omega⟩
    by_cases h0 : n = 0
    · subst h0
      rw [Nat.gcd_zero_right] at hp
      exact br_c (fun _ => hp) (fun _ => br_t nI_0 hp)
    · have h1 : Nat.gcd m n = Nat.gcd n (m % n) := fi_gcd_step m n
      have hl : m % n < n := Nat.mod_lt m (by omega)
      refine br_f (nI_ge (a := r) (b := 24) (by omega) (by omega)) (br_f (nI_ne0 (by omega) (by omega)) ⟨nI_ne0 (by omega) (by omega), nm_r (pk_rem (by omega) (by omega) (by omega)) (nm_r (nI_1 r) ?_)⟩)
      by_cases h2 : m % n = 0
      · rw [h1, h2, Nat.gcd_zero_right] at hp
        rw [h2]
        exact br_c (fun _ => hp) (fun _ => br_t nI_0 hp)
      · have h3 : Nat.gcd n (m % n) = Nat.gcd (m % n) (n % (m % n)) := fi_gcd_step _ _
        have h4 := fi_mod_half (Nat.pos_of_ne_zero h2) hl
        have h5 : (2 : Nat) ^ (t + 1) = 2 ^ t * 2 := Nat.pow_succ 2 t
        rw [h1, h3] at hp
        refine br_f (nI_ge (a := r + 1) (b := 24) (by omega) (by omega)) (br_f (nI_ne0 (by omega) (by omega)) ⟨nI_ne0 (by omega) (by omega), nm_r (pk_rem (by omega) (by omega) (by omega)) (nm_r (nI_1 (r + 1)) ?_)⟩)
        exact ih (m % n) (n % (m % n)) (r + 1 + 1) k (by omega) (by omega) (by omega) (by omega) (by omega) hp
theorem fi_dv' {post : Int32 → Prop} {x : Int32} {m n : Nat} (e : x = nI n) (hm : m ≤ 200) (hn : n ≤ 200) (hp : post (nI (Nat.gcd m n))) : wX_divisor_25 post 17 (nI m) x 0 := by
  subst e
  exact fi_dv post 8 m n 0 17 (by omega) (by omega) (by omega) (by omega) (by omega) hp
theorem fi_dv10 {post : Int32 → Prop} {x b : Int32} {m : Nat} (e : x = nI m) (hm : m ≤ 200) (hb : b.toInt.natAbs ≤ 200) (hp : post (nI (Nat.gcd m b.toInt.natAbs))) : wX_divisor_10 post b x := by
  subst e
  exact br_c (fun h => ⟨17, fi_dv' (fi_abs_pos h) hm hb hp⟩) (fun h => nm_r (fi_abs_neg h (by omega)) ⟨17, fi_dv' rfl hm hb hp⟩)
theorem fi_divisor {post : Int32 → Prop} {a b : Int32} (ha : a.toInt.natAbs ≤ 200) (hb : b.toInt.natAbs ≤ 200) (hp : post (nI (Nat.gcd a.toInt.natAbs b.toInt.natAbs))) : wpX_divisor post a b :=
  br_c (fun h => fi_dv10 (fi_abs_pos h) ha hb hp) (fun h => fi_dv10 (fi_abs_neg h (by omega)) ha hb hp)
end
section
/-! ===== takeDifferent ===== -/
theorem fi_ix4 (x k : Nat) : nI x * 4 + nI k = nI (x * 4 + k) := by
  show nI x * nI 4 + nI k = _
  rw [pk_mul, nI_add]
theorem fi_nar4 : vp_nar .byte 4 = nI 4 := by rw [vp_nar_byte]; decide
theorem fi_nar_s : ∀ c, c ≤ 2 → vp_nar .byte ((nI c + 1).toInt8.toInt32) = nI (c + 1) := by
  intro c hc
  rw [vp_nar_byte]
  have : c = 0 ∨ c = 1 ∨ c = 2 := by omega
  rcases this with h | h | h <;> subst h <;> decide
/-- where the value goes: what lies below k is as it was, what lies above has moved up by one -/
def fi_Ins (x c : Nat) (v : Int32) (O : Nat → Int32) (k : Nat) (S : Nat → Int32) : Prop :=
  (∀ j, j < k → S (x * 4 + j) = O (x * 4 + j)) ∧ (∀ j, k < j → j ≤ c → S (x * 4 + j) = O (x * 4 + (j - 1)) ∧ v < O (x * 4 + (j - 1))) ∧ (∀ i, (∀ j, j < 4 → i ≠ x * 4 + j) → S i = O i)
theorem fi_ins {f : Nat → Int32} {n c k : Nat} {o s : Nat → Int32} (hk : k ≤ c) (A : ∀ j, j < k → s j = o j) (B : s k = f n) (C : ∀ j, k < j → j ≤ c → s j = o (j - 1) ∧ f n < o (j - 1)) (E : k = 0 ∨ o (k - 1) ≤ f n) (N : ∀ j, j < c → o j ≠ f n) (S1 : ∀ j, j + 1 < c → o j < o (j + 1)) (S2 : ∀ i, i < n → ∃ j, j < c ∧ o j = f i) (S3 : ∀ j, j < c → ∃ i, i < n ∧ f i = o j) : (∀ j, j + 1 < c + 1 → s j < s (j + 1)) ∧ (∀ i, i < n + 1 → ∃ j, j < c + 1 ∧ s j = f i) ∧ (∀ j, j < c + 1 → ∃ i, i < n + 1 ∧ f i = s j) := by
  refine ⟨fun j hj => ?_, fun i hi => ?_, fun j hj => ?_⟩
  · by_cases h1 : j + 1 < k
    · rw [A j (by omega), A (j + 1) h1]
      exact S1 j (by omega)
    · by_cases h2 : j + 1 = k
      · have hB : s (j + 1) = f n := by rw [h2]; exact B
        rw [A j (by omega), hB]
        have hE : o (k - 1) ≤ f n := E.resolve_left (by omega)
        have ej : k - 1 = j := by omega
        rw [ej] at hE
        exact Int32.lt_of_le_of_ne hE (N j (by omega))
      · by_cases h3 : j = k
        · subst h3
          obtain ⟨e, l⟩ := C (j + 1) (by omega) (by omega)
          rw [B, e]
          exact l
        · rw [(C j (by omega) (by omega)).1, (C (j + 1) (by omega) (by omega)).1]
          have := S1 (j - 1) (by omega)
          have ej : j - 1 + 1 = j + 1 - 1 := by omega
          rw [ej] at this
          exact this
  · by_cases h : i = n
    · exact ⟨k, by omega, by rw [h]; exact B⟩
    · obtain ⟨j, hj, e⟩ := S2 i (by omega)
      by_cases h2 : j < k
      · exact ⟨j, by omega, by rw [A j h2, e]⟩
      · exact ⟨j + 1, by omega, by rw [(C (j + 1) (by omega) (by omega)).1]; exact e⟩
  · by_cases h : j = k
    · exact ⟨n, by omega, by rw [h]; exact B.symm⟩
    · by_cases h2 : j < k
      · obtain ⟨i, hi, e⟩ := S3 j (by omega)
        exact ⟨i, by omega, by rw [A j h2]; exact e⟩
      · obtain ⟨i, hi, e⟩ := S3 (j - 1) (by omega)
        exact ⟨i, by omega, by rw [(C j (by omega) (by omega)).1]; exact e⟩
section
variable {f_count : Int32} {f_notLess : Int32} {f_greater : Int32} {f_unlike : Int32} {f_alike : Int32} {f_awayBroken : Int32} {f_sumBroken : Int64} {a_now : (Nat → Int32)} {a_first : (Nat → Int32)} {a_least : (Nat → Int32)} {a_greatest : (Nat → Int32)} {a_gap : (Nat → Int32)} {a_some : (Nat → Int32)} {a_someCount : (Nat → Int32)} {a_lineState : (Nat → Int32)} {a_lineP : (Nat → Int32)} {a_lineQ : (Nat → Int32)} {a_lineR : (Nat → Int32)} {a_away : (Nat → Int32)}
theorem fi_td111 {post : SX → Prop} {x c k : Nat} {v : Int32} (hx : x < 4) (hc : c ≤ 2) (hk : k ≤ c) (e : a_someCount x = nI c) (hp : post (f_count, f_notLess, f_greater, f_unlike, f_alike, f_awayBroken, f_sumBroken, a_now, a_first, a_least, a_greatest, a_gap, upd a_some (x * 4 + k) v, upd a_someCount x (nI (c + 1)), a_lineState, a_lineP, a_lineQ, a_lineR, a_away)) : wX_takeDifferent_111 post (nI x) v (nI k) f_count f_notLess f_greater f_unlike f_alike f_awayBroken f_sumBroken a_now a_first a_least a_greatest a_gap a_some a_someCount a_lineState a_lineP a_lineQ a_lineR a_away := by
  unfold wX_takeDifferent_111
  rw [fi_ix4, nI_clamp (show x * 4 + k < 2 ^ 31 by omega), nI_clamp (show x < 2 ^ 31 by omega), e, fi_nar_s c hc]
  exact ⟨vp_in_nI (by omega) (by omega), nm_e ⟨vp_in_nI hx (by omega), vp_in_nI hx (by omega), nm_e hp⟩⟩
theorem fi_td59 {post : SX → Prop} {x c : Nat} {v : Int32} {O : Nat → Int32} (hx : x < 4) (hc : c ≤ 2) (K : ∀ k S, k ≤ c → fi_Ins x c v O k S → (k = 0 ∨ O (x * 4 + (k - 1)) ≤ v) → wX_takeDifferent_111 post (nI x) v (nI k) f_count f_notLess f_greater f_unlike f_alike f_awayBroken f_sumBroken a_now a_first a_least a_greatest a_gap S a_someCount a_lineState a_lineP a_lineQ a_lineR a_away) : ∀ k S, k ≤ c → fi_Ins x c v O k S → wX_takeDifferent_59 post (nI x) v f_count f_notLess f_greater f_unlike f_alike f_awayBroken f_sumBroken (k + 1) (nI k) a_now a_first a_least a_greatest a_gap S a_someCount a_lineState a_lineP a_lineQ a_lineR a_away := by
  intro k
  induction k with
  | zero =>
    intro S hk hI
    exact br_t (nI_le (a := 0) (b := 0) (Nat.le_refl 0) (by omega)) (K 0 S hk hI (Or.inl rfl))
  | succ k ih =>
    intro S hk hI
    refine br_f (nI_nle (by omega) (by omega)) ?_
    rw [fi_ix4, show nI (x * 4 + (k + 1)) - 1 = nI (x * 4 + k) from nI_pred (x * 4 + k), nI_clamp (show x * 4 + k < 2 ^ 31 by omega), nI_clamp (show x * 4 + (k + 1) < 2 ^ 31 by omega)]
    have eS : S (x * 4 + k) = O (x * 4 + k) := hI.1 k (by omega)
    refine ⟨vp_in_nI (by omega) (by omega), br_c (fun hz => K (k + 1) S hk hI (Or.inr (by rw [eS] at hz; exact hz))) (fun hz => ⟨vp_in_nI (by omega) (by omega), vp_in_nI (by omega) (by omega), nm_e (nm_r (pk_m1 k) (ih _ (by omega) ?_))⟩)⟩
    refine ⟨fun j hj => ?_, fun j hj hjc => ?_, fun i hi => ?_⟩
    · rw [pk_un (by omega)]
      exact hI.1 j (by omega)
    · by_cases h : j = k + 1
      · subst h
        rw [pk_us]
        refine ⟨eS, ?_⟩
        rw [eS] at hz
        exact Int32.not_le.mp hz
      · rw [pk_un (by omega)]
        exact hI.2.1 j (by omega) hjc
    · rw [pk_un (hi (k + 1) (by omega))]
      exact hI.2.2 i hi
theorem fi_td10 {post : SX → Prop} {x c : Nat} {v : Int32} (hx : x < 4) (hc : c ≤ 4) (hF : ∀ j, j < c → c ≤ 3 → a_some (x * 4 + j) = v → post (f_count, f_notLess, f_greater, f_unlike, f_alike, f_awayBroken, f_sumBroken, a_now, a_first, a_least, a_greatest, a_gap, a_some, a_someCount, a_lineState, a_lineP, a_lineQ, a_lineR, a_away)) (hN : (c ≤ 3 → ∀ j, j < c → a_some (x * 4 + j) ≠ v) → wX_takeDifferent_43 post (nI x) v (nI c) f_count f_notLess f_greater f_unlike f_alike f_awayBroken f_sumBroken a_now a_first a_least a_greatest a_gap a_some a_someCount a_lineState a_lineP a_lineQ a_lineR a_away) : ∀ d k, k + d = c → (∀ j, j < k → a_some (x * 4 + j) ≠ v) → wX_takeDifferent_10 post (nI x) v (nI c) f_count f_notLess f_greater f_unlike f_alike f_awayBroken f_sumBroken a_now a_first a_least a_greatest a_gap a_some a_someCount a_lineState a_lineP a_lineQ a_lineR a_away (d + 1) (nI k) := by
  intro d
  induction d with
  | zero =>
    intro k hk hj
    have e : k = c := by omega
    subst e
    exact br_t (nI_le (Nat.le_refl k) (by omega)) (hN (fun _ => hj))
  | succ d ih =>
    intro k hk hj
    refine br_f (nI_ge (a := k) (b := c) (by omega) (by omega)) (pk_le 4 c (fun h => hN (fun h3 => by omega)) (fun h => ?_))
    rw [fi_ix4, nI_clamp (show x * 4 + k < 2 ^ 31 by omega)]
    exact ⟨vp_in_nI (by omega) (by omega), br_c (fun hz => hF k (by omega) (by omega) hz) (fun hz => nm_r (nI_1 k) (ih (k + 1) (by omega) (lt_s hj hz)))⟩
theorem fi_takeDiff {post : SX → Prop} {f : Nat → Int32} {n x : Nat} (hx : x < 4) (D : fi_D f n (a_someCount x) (fun j => a_some (x * 4 + j))) (hp : ∀ S C : Nat → Int32, (∀ i, (∀ j, j < 4 → i ≠ x * 4 + j) → S i = a_some i) → (∀ y, y ≠ x → C y = a_someCount y) → fi_D f (n + 1) (C x) (fun j => S (x * 4 + j)) → post (f_count, f_notLess, f_greater, f_unlike, f_alike, f_awayBroken, f_sumBroken, a_now, a_first, a_least, a_greatest, a_gap, S, C, a_lineState, a_lineP, a_lineQ, a_lineR, a_away)) : wpX_takeDifferent post (f_count, f_notLess, f_greater, f_unlike, f_alike, f_awayBroken, f_sumBroken, a_now, a_first, a_least, a_greatest, a_gap, a_some, a_someCount, a_lineState, a_lineP, a_lineQ, a_lineR, a_away) (nI x) (f n) := by
  obtain ⟨c, e, hc, hD⟩ := D
  unfold wpX_takeDifferent
  refine ⟨vp_in_nI hx (by omega), nm_r (e' := nI c) (by rw [nI_clamp (by omega)]; exact e) ⟨c + 1, fi_td10 (x := x) (c := c) hx (by omega) ?_ ?_ c 0 (by omega) (fun j hj => absurd hj (Nat.not_lt_zero j))⟩⟩
  · intro j hj h3 hz
    obtain ⟨s1, s2, s3⟩ := hD h3
    obtain ⟨i, hi, ei⟩ := s3 j hj
    have hold : fi_nd f (n + 1) = fi_nd f n := fi_nd_old hi (ei.trans hz)
    refine hp a_some a_someCount (fun _ _ => rfl) (fun _ _ => rfl) ⟨c, e, by rw [hold]; exact hc, fun _ => ⟨s1, fun t ht => ?_, fun t ht => ?_⟩⟩
    · by_cases h : t = n
      · exact ⟨j, hj, by rw [h]; exact hz⟩
      · exact s2 t (by omega)
    · obtain ⟨i, hi, ei⟩ := s3 t ht
      exact ⟨i, by omega, ei⟩
  · intro hN
    by_cases h3 : c < 3
    · obtain ⟨s1, s2, s3⟩ := hD (by omega)
      have hN' := hN (by omega)
      have hnew : fi_nd f (n + 1) = fi_nd f n + 1 := fi_nd_new (fun i hi z => by
        obtain ⟨j, hj, ej⟩ := s2 i hi
        exact hN' j hj (ej.trans z))
      refine br_t (nI_lt (a := c) (b := 3) h3 (by omega)) ⟨c + 1, fi_td59 (O := a_some) (c := c) hx (by omega) (fun k S hk hI hE => fi_td111 (c := c) hx (by omega) hk e ?_) c a_some (Nat.le_refl c) ⟨fun _ _ => rfl, fun j h1 h2 => by omega, fun _ _ => rfl⟩⟩
      refine hp _ _ (fun i hi => ?_) (fun y hy => pk_un hy) ⟨c + 1, pk_us, by omega, fun _ => ?_⟩
      · rw [pk_un (hi k (by omega))]
        exact hI.2.2 i hi
      · refine fi_ins (k := k) (o := fun j => a_some (x * 4 + j)) hk (fun j hj => ?_) pk_us (fun j h1 h2 => ?_) hE hN' s1 s2 s3
        · show upd S (x * 4 + k) (f n) (x * 4 + j) = a_some (x * 4 + j)
          rw [pk_un (by omega)]
          exact hI.1 j hj
        · show upd S (x * 4 + k) (f n) (x * 4 + j) = a_some (x * 4 + (j - 1)) ∧ _
          rw [pk_un (by omega)]
          exact hI.2.1 j h1 h2
    · refine br_f (nI_nlt (a := c) (b := 3) (by omega) (by omega)) ⟨vp_in_nI hx (by omega), ?_⟩
      rw [nI_clamp (show x < 2 ^ 31 by omega), fi_nar4]
      have hnd : 4 ≤ fi_nd f (n + 1) := by
        by_cases h4 : c = 4
        · have := fi_nd_mono f n
          omega
        · obtain ⟨s1, s2, s3⟩ := hD (by omega)
          have hnew : fi_nd f (n + 1) = fi_nd f n + 1 := fi_nd_new (fun i hi z => by
            obtain ⟨j, hj, ej⟩ := s2 i hi
            exact hN (by omega) j hj (ej.trans z))
          omega
      exact nm_e (hp _ _ (fun _ _ => rfl) (fun y hy => pk_un hy) ⟨4, pk_us, by omega, fun z => by omega⟩)
/-! ===== takeValue ===== -/
theorem fi_tv86 {post : SX → Prop} {f : Nat → Int32} {n x g : Nat} {z : Int32} (hx : x < 4) (h0 : fi_ok (f 0)) (hn : fi_ok (f n)) (hg : g ≤ 200) (e1 : a_first x = f 0) (e2 : a_gap x = nI g) (D : fi_D f n (a_someCount x) (fun j => a_some (x * 4 + j))) (hp : ∀ S C : Nat → Int32, (∀ i, (∀ j, j < 4 → i ≠ x * 4 + j) → S i = a_some i) → (∀ y, y ≠ x → C y = a_someCount y) → fi_D f (n + 1) (C x) (fun j => S (x * 4 + j)) → post (f_count, f_notLess, f_greater, f_unlike, f_alike, f_awayBroken, f_sumBroken, a_now, a_first, a_least, upd a_greatest x z, upd a_gap x (nI (Nat.gcd g (fi_df f n))), S, C, a_lineState, a_lineP, a_lineQ, a_lineR, a_away)) : wX_takeValue_86 post (nI x) (f n) z (nI x) f_count f_notLess f_greater f_unlike f_alike f_awayBroken f_sumBroken a_now a_first a_least a_greatest a_gap a_some a_someCount a_lineState a_lineP a_lineQ a_lineR a_away := by
  unfold wX_takeValue_86
  rw [nI_clamp (show x < 2 ^ 31 by omega), e1, e2]
  have hin : vp_in (nI x) 4 := vp_in_nI hx (by omega)
  have eg : (nI g).toInt.natAbs = g := by rw [nI_toInt (by omega)]; exact Int.natAbs_natCast g
  have ed : (f n - f 0).toInt.natAbs = fi_df f n := by rw [fi_sub hn h0]; rfl
  refine ⟨hin, nm_e ⟨hin, hin, fi_divisor (by omega) (fi_subA hn h0) ?_⟩⟩
  rw [eg, ed]
  exact ⟨hin, nm_e (fi_takeDiff hx D (fun S C h1 h2 h3 => hp S C h1 h2 h3))⟩
theorem fi_tv35 {post : SX → Prop} {f : Nat → Int32} {n x : Nat} (hx : x < 4) (hR : ∀ i, i ≤ n → fi_ok (f i)) (e1 : a_first x = f 0) (e2 : a_least x = fi_mn f n) (e3 : a_greatest x = fi_mx f n) (e4 : a_gap x = nI (fi_gp f n)) (D : fi_D f n (a_someCount x) (fun j => a_some (x * 4 + j))) (hp : ∀ L G A S C : Nat → Int32, (∀ y, y ≠ x → L y = a_least y) → (∀ y, y ≠ x → G y = a_greatest y) → (∀ y, y ≠ x → A y = a_gap y) → (∀ i, (∀ j, j < 4 → i ≠ x * 4 + j) → S i = a_some i) → (∀ y, y ≠ x → C y = a_someCount y) → fi_V f (n + 1) (a_first x) (L x) (G x) (A x) (C x) (fun j => S (x * 4 + j)) → post (f_count, f_notLess, f_greater, f_unlike, f_alike, f_awayBroken, f_sumBroken, a_now, a_first, L, G, A, S, C, a_lineState, a_lineP, a_lineQ, a_lineR, a_away)) : wX_takeValue_35 post (nI x) (f n) f_count f_notLess f_greater f_unlike f_alike f_awayBroken f_sumBroken a_now a_first a_least a_greatest a_gap a_some a_someCount a_lineState a_lineP a_lineQ a_lineR a_away := by
  have hin : vp_in (nI x) 4 := vp_in_nI hx (by omega)
  have hg : fi_gp f n ≤ 200 := fi_gp_le (fun i hi => by
    have a := hR i (by omega)
    have b := hR 0 (by omega)
    unfold fi_ok at a b
    unfold fi_df
    omega)
  have h86 : ∀ l z : Int32, l = fi_mn f (n + 1) → z = fi_mx f (n + 1) → wX_takeValue_86 post (nI x) (f n) z (nI x) f_count f_notLess f_greater f_unlike f_alike f_awayBroken f_sumBroken a_now a_first (upd a_least x l) a_greatest a_gap a_some a_someCount a_lineState a_lineP a_lineQ a_lineR a_away := by
    intro l z hl hz
    refine fi_tv86 (g := fi_gp f n) hx (hR 0 (by omega)) (hR n (Nat.le_refl n)) hg e1 e4 D (fun S C h1 h2 h3 => hp _ _ _ S C (fun y hy => pk_un hy) (fun y hy => pk_un hy) (fun y hy => pk_un hy) h1 h2 ⟨fun _ => ⟨e1, ?_, ?_, ?_⟩, h3⟩)
    · rw [pk_us]; exact hl
    · rw [pk_us]; exact hz
    · rw [pk_us]; rfl
  have h60 : ∀ l : Int32, l = fi_mn f (n + 1) → wX_takeValue_60 post (nI x) (f n) l (nI x) f_count f_notLess f_greater f_unlike f_alike f_awayBroken f_sumBroken a_now a_first a_least a_greatest a_gap a_some a_someCount a_lineState a_lineP a_lineQ a_lineR a_away := by
    intro l hl
    unfold wX_takeValue_60
    rw [nI_clamp (show x < 2 ^ 31 by omega)]
    refine ⟨hin, nm_e ⟨hin, br_c (fun h => ⟨hin, h86 l _ hl ?_⟩) (fun h => h86 l _ hl ?_)⟩⟩
    · rw [e3] at h ⊢; exact (fi_mx_t h).symm
    · rw [e3] at h; exact (fi_mx_f h).symm
  unfold wX_takeValue_35
  rw [nI_clamp (show x < 2 ^ 31 by omega)]
  refine ⟨hin, br_c (fun h => ⟨hin, h60 _ ?_⟩) (fun h => h60 _ ?_)⟩
  · rw [e2] at h ⊢; exact (fi_mn_t h).symm
  · rw [e2] at h; exact (fi_mn_f h).symm
theorem fi_takeValue {post : SX → Prop} {f : Nat → Int32} {n x : Nat} (hx : x < 4) (hn : n ≤ 100) (hc : f_count = nI n) (hR : ∀ i, i ≤ n → fi_ok (f i)) (H : fi_V f n (a_first x) (a_least x) (a_greatest x) (a_gap x) (a_someCount x) (fun j => a_some (x * 4 + j))) (hp : ∀ F L G A S C : Nat → Int32, (∀ y, y ≠ x → F y = a_first y) → (∀ y, y ≠ x → L y = a_least y) → (∀ y, y ≠ x → G y = a_greatest y) → (∀ y, y ≠ x → A y = a_gap y) → (∀ i, (∀ j, j < 4 → i ≠ x * 4 + j) → S i = a_some i) → (∀ y, y ≠ x → C y = a_someCount y) → fi_V f (n + 1) (F x) (L x) (G x) (A x) (C x) (fun j => S (x * 4 + j)) → post (f_count, f_notLess, f_greater, f_unlike, f_alike, f_awayBroken, f_sumBroken, a_now, F, L, G, A, S, C, a_lineState, a_lineP, a_lineQ, a_lineR, a_away)) : wpX_takeValue post (f_count, f_notLess, f_greater, f_unlike, f_alike, f_awayBroken, f_sumBroken, a_now, a_first, a_least, a_greatest, a_gap, a_some, a_someCount, a_lineState, a_lineP, a_lineQ, a_lineR, a_away) (nI x) (f n) := by
  have hin : vp_in (nI x) 4 := vp_in_nI hx (by omega)
  unfold wpX_takeValue
  dsimp only
  rw [nI_clamp (show x < 2 ^ 31 by omega)]
  by_cases h0 : n = 0
  · subst h0
    refine br_t (hc.trans nI_0) ⟨hin, nm_e ⟨hin, nm_e ⟨hin, nm_e ⟨hin, nm_e ?_⟩⟩⟩⟩
    refine fi_tv35 hx hR pk_us pk_us pk_us pk_us H.2 (fun L G A S C h1 h2 h3 h4 h5 h6 => ?_)
    refine hp _ L G A S C (fun y hy => pk_un hy) (fun y hy => (h1 y hy).trans (pk_un hy)) (fun y hy => (h2 y hy).trans (pk_un hy)) (fun y hy => (h3 y hy).trans (pk_un hy)) h4 h5 h6
  · refine br_f (by rw [hc]; exact nI_ne0 (by omega) (by omega)) ?_
    obtain ⟨e1, e2, e3, e4⟩ := H.1 (by omega)
    refine fi_tv35 hx hR e1 e2 e3 e4 H.2 (fun L G A S C h1 h2 h3 h4 h5 h6 => ?_)
    exact hp a_first L G A S C (fun _ _ => rfl) h1 h2 h3 h4 h5 h6
end
end
section
/-! ===== draw and takeLine ===== -/
theorem fi_nb1 : vp_nar .byte 1 = 1 := by rw [vp_nar_byte]; decide
theorem fi_nb2 : vp_nar .byte 2 = 2 := by rw [vp_nar_byte]; decide
theorem fi_nb3 : vp_nar .byte 3 = 3 := by rw [vp_nar_byte]; decide
theorem fi_nb0 : vp_nar .byte 0 = 0 := by rw [vp_nar_byte]; decide
/-- the line through the first sample and o holds the first sample -/
theorem fi_on0 {f g : Nat → Int32} {o : Nat} (hf0 : fi_ok (f 0)) (hg0 : fi_ok (g 0)) (hfo : fi_ok (f o)) (hgo : fi_ok (g o)) (h : f o ≠ f 0) : fi_lp f g o * g 0 = fi_lq f g o * f 0 + fi_lr f g o := by
  have e := fi_qa (a := f o - f 0) (b := g o - g 0) (fun z => h (fi_sub0.mp z)) (fi_subA hfo hf0) (fi_subA hgo hg0)
  unfold fi_lr fi_lp fi_lq
  generalize fi_p (f o - f 0) (g o - g 0) = p at e ⊢
  generalize fi_q (f o - f 0) (g o - g 0) = q at e ⊢
  grind
theorem fi_onO {f g : Nat → Int32} {o : Nat} : fi_lp f g o * g o = fi_lq f g o * f o + fi_lr f g o := by
  unfold fi_lr
  grind
theorem fi_on_s {f g : Nat → Int32} {o n : Nat} (h : fi_on f g o n) (hn : fi_lp f g o * g n = fi_lq f g o * f n + fi_lr f g o) : fi_on f g o (n + 1) := by
  intro i hi
  by_cases e : i = n
  · rw [e]; exact hn
  · exact h i (by omega)
theorem fi_same_s {f g : Nat → Int32} {n : Nat} (h : fi_same f g n) (hf : f n = f 0) (hg : g n = g 0) : fi_same f g (n + 1) := by
  intro i hi
  by_cases e : i = n
  · rw [e]; exact ⟨hf, hg⟩
  · exact h i (by omega)
section
variable {f_count : Int32} {f_notLess : Int32} {f_greater : Int32} {f_unlike : Int32} {f_alike : Int32} {f_awayBroken : Int32} {f_sumBroken : Int64} {a_now : (Nat → Int32)} {a_first : (Nat → Int32)} {a_least : (Nat → Int32)} {a_greatest : (Nat → Int32)} {a_gap : (Nat → Int32)} {a_some : (Nat → Int32)} {a_someCount : (Nat → Int32)} {a_lineState : (Nat → Int32)} {a_lineP : (Nat → Int32)} {a_lineQ : (Nat → Int32)} {a_lineR : (Nat → Int32)} {a_away : (Nat → Int32)}
theorem fi_d52 {post : SX → Prop} {c : Nat} {x y p q : Int32} (hc : c < 16) (hp : post (f_count, f_notLess, f_greater, f_unlike, f_alike, f_awayBroken, f_sumBroken, a_now, a_first, a_least, a_greatest, a_gap, a_some, a_someCount, upd a_lineState c 2, upd a_lineP c p, upd a_lineQ c q, upd a_lineR c (p * y - q * x), a_away)) : wX_draw_52 post (nI c) x y p q f_count f_notLess f_greater f_unlike f_alike f_awayBroken f_sumBroken a_now a_first a_least a_greatest a_gap a_some a_someCount a_lineState a_lineP a_lineQ a_lineR a_away := by
  have hin : vp_in (nI c) 16 := vp_in_nI hc (by omega)
  unfold wX_draw_52
  rw [nI_clamp (show c < 2 ^ 31 by omega), fi_nb2]
  exact ⟨hin, nm_e ⟨hin, nm_e ⟨hin, nm_e ⟨hin, nm_e hp⟩⟩⟩⟩
theorem fi_d16 {post : SX → Prop} {c : Nat} {a b x y s : Int32} (hc : c < 16) (h0 : a ≠ 0) (ha : a.toInt.natAbs ≤ 200) (hb : b.toInt.natAbs ≤ 200) (hs : s.toInt = a.toInt.sign) (hp : post (f_count, f_notLess, f_greater, f_unlike, f_alike, f_awayBroken, f_sumBroken, a_now, a_first, a_least, a_greatest, a_gap, a_some, a_someCount, upd a_lineState c 2, upd a_lineP c (fi_p a b), upd a_lineQ c (fi_q a b), upd a_lineR c (fi_p a b * y - fi_q a b * x), a_away)) : wX_draw_16 post (nI c) a b x y (nI (Nat.gcd a.toInt.natAbs b.toInt.natAbs)) s f_count f_notLess f_greater f_unlike f_alike f_awayBroken f_sumBroken a_now a_first a_least a_greatest a_gap a_some a_someCount a_lineState a_lineP a_lineQ a_lineR a_away := by
  have hg := fi_gpos b.toInt (fi_ne0 h0)
  have hl : Nat.gcd a.toInt.natAbs b.toInt.natAbs ≤ a.toInt.natAbs := Nat.gcd_le_left _ (by have := fi_ne0 h0; omega)
  have h1 : ¬ nI (Nat.gcd a.toInt.natAbs b.toInt.natAbs) ≤ 0 := nI_nle hg (by omega)
  have h2 : ¬ nI (Nat.gcd a.toInt.natAbs b.toInt.natAbs) = 0 := nI_ne0 hg (by omega)
  have h52 : wX_draw_52 post (nI c) x y (s * a / nI (Nat.gcd a.toInt.natAbs b.toInt.natAbs)) (s * b / nI (Nat.gcd a.toInt.natAbs b.toInt.natAbs)) f_count f_notLess f_greater f_unlike f_alike f_awayBroken f_sumBroken a_now a_first a_least a_greatest a_gap a_some a_someCount a_lineState a_lineP a_lineQ a_lineR a_away := by
    rw [fi_drawp hs h0 ha, fi_drawq hs h0 ha hb]
    exact fi_d52 hc hp
  have h34 : wX_draw_34 post (nI c) b x y (nI (Nat.gcd a.toInt.natAbs b.toInt.natAbs)) s (s * a / nI (Nat.gcd a.toInt.natAbs b.toInt.natAbs)) f_count f_notLess f_greater f_unlike f_alike f_awayBroken f_sumBroken a_now a_first a_least a_greatest a_gap a_some a_someCount a_lineState a_lineP a_lineQ a_lineR a_away := br_f h1 ⟨h2, h52⟩
  exact br_f h1 ⟨h2, h34⟩
theorem fi_draw {post : SX → Prop} {c : Nat} {a b x y : Int32} (hc : c < 16) (h0 : a ≠ 0) (ha : a.toInt.natAbs ≤ 200) (hb : b.toInt.natAbs ≤ 200) (hp : post (f_count, f_notLess, f_greater, f_unlike, f_alike, f_awayBroken, f_sumBroken, a_now, a_first, a_least, a_greatest, a_gap, a_some, a_someCount, upd a_lineState c 2, upd a_lineP c (fi_p a b), upd a_lineQ c (fi_q a b), upd a_lineR c (fi_p a b * y - fi_q a b * x), a_away)) : wpX_draw post (f_count, f_notLess, f_greater, f_unlike, f_alike, f_awayBroken, f_sumBroken, a_now, a_first, a_least, a_greatest, a_gap, a_some, a_someCount, a_lineState, a_lineP, a_lineQ, a_lineR, a_away) (nI c) a b x y := by
  unfold wpX_draw
  dsimp only
  refine fi_divisor ha hb (br_c (fun h => fi_d16 hc h0 ha hb ?_ hp) (fun h => fi_d16 hc h0 ha hb ?_ hp))
  · have h1 := Jvm.Kit.i32_nonneg.mp h
    have h2 := fi_ne0 h0
    rw [Int.sign_eq_one_of_pos (by omega)]
    decide
  · have h1 : ¬ 0 ≤ a.toInt := fun z => h (Jvm.Kit.i32_nonneg.mpr z)
    rw [Int.sign_eq_neg_one_of_neg (by omega)]
    decide
theorem fi_takeLine {post : SX → Prop} {f g : Nat → Int32} {n c : Nat} (hc : c < 16) (hf : ∀ i, i ≤ n → fi_ok (f i)) (hg : ∀ i, i ≤ n → fi_ok (g i)) (L : fi_L f g n (a_lineState c) (a_lineP c) (a_lineQ c) (a_lineR c)) (hp : ∀ T P Q R : Nat → Int32, (∀ y, y ≠ c → T y = a_lineState y) → (∀ y, y ≠ c → P y = a_lineP y) → (∀ y, y ≠ c → Q y = a_lineQ y) → (∀ y, y ≠ c → R y = a_lineR y) → fi_L f g (n + 1) (T c) (P c) (Q c) (R c) → post (f_count, f_notLess, f_greater, f_unlike, f_alike, f_awayBroken, f_sumBroken, a_now, a_first, a_least, a_greatest, a_gap, a_some, a_someCount, T, P, Q, R, a_away)) : wpX_takeLine post (f_count, f_notLess, f_greater, f_unlike, f_alike, f_awayBroken, f_sumBroken, a_now, a_first, a_least, a_greatest, a_gap, a_some, a_someCount, a_lineState, a_lineP, a_lineQ, a_lineR, a_away) (nI c) (f n) (g n) := by
  have hin : vp_in (nI c) 16 := vp_in_nI hc (by omega)
  have n10 : ¬ (1 : Int32) = 0 := by decide
  have n20 : ¬ (2 : Int32) = 0 := by decide
  have n21 : ¬ (2 : Int32) = 1 := by decide
  have n30 : ¬ (3 : Int32) = 0 := by decide
  have n31 : ¬ (3 : Int32) = 1 := by decide
  have n32 : ¬ (3 : Int32) = 2 := by decide
  have broken : ∀ o, o < n + 1 → fi_same f g o → ((f o ≠ f 0 ∧ g o = g 0) ∨ (f o = f 0 ∧ g o ≠ g 0) ∨ (f o ≠ f 0 ∧ g o ≠ g 0 ∧ ¬ fi_on f g o (n + 1))) → post (f_count, f_notLess, f_greater, f_unlike, f_alike, f_awayBroken, f_sumBroken, a_now, a_first, a_least, a_greatest, a_gap, a_some, a_someCount, upd a_lineState c 3, a_lineP, a_lineQ, a_lineR, a_away) := by
    intro o h1 h2 h3
    exact hp _ a_lineP a_lineQ a_lineR (fun y hy => pk_un hy) (fun _ _ => rfl) (fun _ _ => rfl) (fun _ _ => rfl) (Or.inr (Or.inr (Or.inr ⟨pk_us, o, h1, h2, h3⟩)))
  unfold wpX_takeLine
  dsimp only
  rw [nI_clamp (show c < 2 ^ 31 by omega), fi_nb1, fi_nb3]
  refine ⟨hin, ?_⟩
  rcases L with ⟨a, b⟩ | ⟨a, b, p, q, s⟩ | ⟨b, o, ho, s, f1, g1, p, q, r, on⟩ | ⟨b, o, ho, s, d⟩
  · subst a
    refine br_t b ⟨hin, nm_e ⟨hin, nm_e ⟨hin, nm_e (hp _ _ _ a_lineR (fun y hy => pk_un hy) (fun y hy => pk_un hy) (fun y hy => pk_un hy) (fun _ _ => rfl) (Or.inr (Or.inl ⟨by omega, pk_us, pk_us, pk_us, ?_⟩)))⟩⟩⟩
    intro i hi
    have : i = 0 := by omega
    rw [this]
    exact ⟨rfl, rfl⟩
  · refine br_f (by rw [b]; exact n10) ⟨hin, br_t b ⟨hin, nm_r (congrArg (f n - ·) p) ⟨hin, nm_r (congrArg (g n - ·) q) ?_⟩⟩⟩
    have h87 : ∀ x y : Int32, (x = 0 ↔ f n = f 0) → (y = 0 ↔ g n = g 0) → (x = 0 ∨ y = 0) → wX_takeLine_87 post (nI c) x y f_count f_notLess f_greater f_unlike f_alike f_awayBroken f_sumBroken a_now a_first a_least a_greatest a_gap a_some a_someCount a_lineState a_lineP a_lineQ a_lineR a_away := by
      intro x y hx hy hxy
      unfold wX_takeLine_87
      rw [nI_clamp (show c < 2 ^ 31 by omega), fi_nb3]
      refine br_c (fun zx => br_c (fun zy => ?_) (fun zy => ⟨hin, nm_e (broken n (by omega) s (Or.inr (Or.inl ⟨hx.mp zx, fun z => zy (hy.mpr z)⟩)))⟩)) (fun zx => ⟨hin, nm_e (broken n (by omega) s (Or.inl ⟨fun z => zx (hx.mpr z), hy.mp (hxy.resolve_left zx)⟩))⟩)
      exact hp a_lineState a_lineP a_lineQ a_lineR (fun _ _ => rfl) (fun _ _ => rfl) (fun _ _ => rfl) (fun _ _ => rfl) (Or.inr (Or.inl ⟨by omega, b, p, q, fi_same_s s (hx.mp zx) (hy.mp zy)⟩))
    refine br_c (fun zx => h87 _ _ fi_sub0 fi_sub0 (Or.inl zx)) (fun zx => br_c (fun zy => h87 _ _ fi_sub0 fi_sub0 (Or.inr zy)) (fun zy => fi_draw hc zx (fi_subA (hf n (Nat.le_refl n)) (hf 0 (by omega))) (fi_subA (hg n (Nat.le_refl n)) (hg 0 (by omega))) ?_))
    have f1 : f n ≠ f 0 := fun z => zx (fi_sub0.mpr z)
    have g1 : g n ≠ g 0 := fun z => zy (fi_sub0.mpr z)
    refine hp _ _ _ _ (fun y hy => pk_un hy) (fun y hy => pk_un hy) (fun y hy => pk_un hy) (fun y hy => pk_un hy) (Or.inr (Or.inr (Or.inl ⟨pk_us, n, by omega, s, f1, g1, pk_us, pk_us, pk_us, fi_on_s (fun i hi => ?_) fi_onO⟩)))
    rw [(s i hi).1, (s i hi).2]
    exact fi_on0 (hf 0 (by omega)) (hg 0 (by omega)) (hf n (Nat.le_refl n)) (hg n (Nat.le_refl n)) f1
  · refine br_f (by rw [b]; exact n20) ⟨hin, br_f (by rw [b]; exact n21) ⟨hin, br_t b ⟨hin, hin, hin, ?_⟩⟩⟩
    rw [p, q, r]
    refine br_c (fun h => hp a_lineState a_lineP a_lineQ a_lineR (fun _ _ => rfl) (fun _ _ => rfl) (fun _ _ => rfl) (fun _ _ => rfl) (Or.inr (Or.inr (Or.inl ⟨b, o, by omega, s, f1, g1, p, q, r, fi_on_s on h⟩)))) (fun h => ⟨hin, nm_e (broken o (by omega) s (Or.inr (Or.inr ⟨f1, g1, fun z => h (z n (by omega))⟩)))⟩)
  · refine br_f (by rw [b]; exact n30) ⟨hin, br_f (by rw [b]; exact n31) ⟨hin, br_f (by rw [b]; exact n32) (hp a_lineState a_lineP a_lineQ a_lineR (fun _ _ => rfl) (fun _ _ => rfl) (fun _ _ => rfl) (fun _ _ => rfl) (Or.inr (Or.inr (Or.inr ⟨b, o, by omega, s, ?_⟩))))⟩⟩
    rcases d with d | d | d
    · exact Or.inl d
    · exact Or.inr (Or.inl d)
    · exact Or.inr (Or.inr ⟨d.1, d.2.1, fun z => d.2.2 (fun i hi => z i (by omega))⟩)
end
end
section
/-! ===== one bit set or left ===== -/
def fi_b (c : Nat) : Int32 := (1 : Int32) <<< (nI c &&& 31)
theorem fi_b_bt : ∀ c, c < 16 → ∀ i, i < 16 → bt (fi_b c) i = decide (i = c) := by decide +kernel
def fi_Bt (F F' : Int32) (c : Nat) (b : Bool) : Prop := bt F' c = b ∧ ∀ i, i < 16 → i ≠ c → bt F' i = bt F i
theorem fi_bi {F : Int32} {c n : Nat} {p : Nat → Bool} (h : bt F c = !fi_al p n) (hp : p n = true) : fi_Bt F F c (!fi_al p (n + 1)) := by
  refine ⟨?_, fun _ _ _ => rfl⟩
  rw [h, fi_al_s, hp, Bool.and_true]
theorem fi_bk {F : Int32} {c n : Nat} {p : Nat → Bool} (h : bt F c = !fi_al p n) (hp : p n = true) : fi_Bt F (F ||| 0) c (!fi_al p (n + 1)) := by
  have e : F ||| 0 = F := Int32.or_zero
  rw [e]
  exact fi_bi h hp
theorem fi_bs {F : Int32} {c n : Nat} {p : Nat → Bool} (hc : c < 16) (hp : p n = false) : fi_Bt F (F ||| fi_b c) c (!fi_al p (n + 1)) := by
  constructor
  · rw [b_or, fi_b_bt c hc c hc, fi_al_s, hp, Bool.and_false]
    simp
  · intro i hi hn
    rw [b_or, fi_b_bt c hc i hi, decide_eq_false hn, Bool.or_false]
theorem fi_off {a b d : Int32} : b - a = d ↔ b = a + d := by
  constructor
  · intro h
    rw [← h]
    grind
  · intro h
    rw [h]
    grind
theorem fi_cell (x y : Nat) : 4 * nI x + nI y = nI (4 * x + y) := by
  show nI 4 * nI x + nI y = _
  rw [pk_mul, nI_add]
section
variable {f_count : Int32} {f_notLess : Int32} {f_greater : Int32} {f_unlike : Int32} {f_alike : Int32} {f_awayBroken : Int32} {f_sumBroken : Int64} {a_now : (Nat → Int32)} {a_first : (Nat → Int32)} {a_least : (Nat → Int32)} {a_greatest : (Nat → Int32)} {a_gap : (Nat → Int32)} {a_some : (Nat → Int32)} {a_someCount : (Nat → Int32)} {a_lineState : (Nat → Int32)} {a_lineP : (Nat → Int32)} {a_lineQ : (Nat → Int32)} {a_lineR : (Nat → Int32)} {a_away : (Nat → Int32)}
theorem fi_takePair {post : SX → Prop} {f g : Nat → Int32} {n x y : Nat} (hx : x < 4) (hy : y < 4) (hn : n ≤ 100) (hc : f_count = nI n) (hf : ∀ i, i ≤ n → fi_ok (f i)) (hg : ∀ i, i ≤ n → fi_ok (g i)) (nx : a_now x = f n) (ny : a_now y = g n)
    (H : fi_P f g n (bt f_notLess (4 * x + y)) (bt f_greater (4 * x + y)) (bt f_unlike (4 * x + y)) (bt f_alike (4 * x + y)) (bt f_awayBroken (4 * x + y)) (a_lineState (4 * x + y)) (a_lineP (4 * x + y)) (a_lineQ (4 * x + y)) (a_lineR (4 * x + y)) (a_away (4 * x + y)))
    (hp : ∀ (NL GR UL AL AB : Int32) (T P Q R W : Nat → Int32), (∀ i, i < 16 → i ≠ 4 * x + y → bt NL i = bt f_notLess i) → (∀ i, i < 16 → i ≠ 4 * x + y → bt GR i = bt f_greater i) → (∀ i, i < 16 → i ≠ 4 * x + y → bt UL i = bt f_unlike i) → (∀ i, i < 16 → i ≠ 4 * x + y → bt AL i = bt f_alike i) → (∀ i, i < 16 → i ≠ 4 * x + y → bt AB i = bt f_awayBroken i) → (∀ i, i ≠ 4 * x + y → T i = a_lineState i) → (∀ i, i ≠ 4 * x + y → P i = a_lineP i) → (∀ i, i ≠ 4 * x + y → Q i = a_lineQ i) → (∀ i, i ≠ 4 * x + y → R i = a_lineR i) → (∀ i, i ≠ 4 * x + y → W i = a_away i) → fi_P f g (n + 1) (bt NL (4 * x + y)) (bt GR (4 * x + y)) (bt UL (4 * x + y)) (bt AL (4 * x + y)) (bt AB (4 * x + y)) (T (4 * x + y)) (P (4 * x + y)) (Q (4 * x + y)) (R (4 * x + y)) (W (4 * x + y)) → post (f_count, NL, GR, UL, AL, AB, f_sumBroken, a_now, a_first, a_least, a_greatest, a_gap, a_some, a_someCount, T, P, Q, R, W)) : wpX_takePair post (f_count, f_notLess, f_greater, f_unlike, f_alike, f_awayBroken, f_sumBroken, a_now, a_first, a_least, a_greatest, a_gap, a_some, a_someCount, a_lineState, a_lineP, a_lineQ, a_lineR, a_away) (nI x) (nI y) := by
  obtain ⟨H1, H2, H3, H4, H5, H6, H7⟩ := H
  have hcell : 4 * x + y < 16 := by omega
  generalize ec : 4 * x + y = c at H1 H2 H3 H4 H5 H6 H7 hp hcell
  have ix : vp_in (nI x) 4 := vp_in_nI hx (by omega)
  have iy : vp_in (nI y) 4 := vp_in_nI hy (by omega)
  have ic : vp_in (nI c) 16 := vp_in_nI hcell (by omega)
  have cx : (nI x).toNatClampNeg = x := nI_clamp (by omega)
  have cy : (nI y).toNatClampNeg = y := nI_clamp (by omega)
  have cc : (nI c).toNatClampNeg = c := nI_clamp (by omega)
  have h186 : ∀ (NL GR UL AL AB : Int32) (W : Nat → Int32), fi_Bt f_notLess NL c (!fi_al (fun i => decide (f i < g i)) (n + 1)) → fi_Bt f_greater GR c (!fi_al (fun i => decide (f i ≤ g i)) (n + 1)) → fi_Bt f_unlike UL c (!fi_al (fun i => decide (f i = g i)) (n + 1)) → fi_Bt f_alike AL c (!fi_al (fun i => !decide (f i = g i)) (n + 1)) → fi_Bt f_awayBroken AB c (!fi_al (fun i => decide (g i = f i + (g 0 - f 0))) (n + 1)) → (∀ i, i ≠ c → W i = a_away i) → W c = g 0 - f 0 → wX_takePair_186 post (nI x) (nI y) (nI c) f_count NL GR UL AL AB f_sumBroken a_now a_first a_least a_greatest a_gap a_some a_someCount a_lineState a_lineP a_lineQ a_lineR W := by
    intro NL GR UL AL AB W b1 b2 b3 b4 b5 w1 w2
    unfold wX_takePair_186
    rw [cx, cy, nx, ny]
    exact ⟨ix, iy, fi_takeLine hcell hf hg H7 (fun T P Q R t p q r l => hp NL GR UL AL AB T P Q R W b1.2 b2.2 b3.2 b4.2 b5.2 t p q r w1 ⟨b1.1, b2.1, b3.1, b4.1, b5.1, fun _ => w2, l⟩)⟩
  have h127 : ∀ (NL GR UL z : Int32), fi_Bt f_notLess NL c (!fi_al (fun i => decide (f i < g i)) (n + 1)) → fi_Bt f_greater GR c (!fi_al (fun i => decide (f i ≤ g i)) (n + 1)) → fi_Bt f_unlike UL c (!fi_al (fun i => decide (f i = g i)) (n + 1)) → fi_Bt f_alike (f_alike ||| z) c (!fi_al (fun i => !decide (f i = g i)) (n + 1)) → wX_takePair_127 post (nI x) (nI y) (nI c) (fi_b c) z f_alike f_count NL GR UL f_alike f_awayBroken f_sumBroken a_now a_first a_least a_greatest a_gap a_some a_someCount a_lineState a_lineP a_lineQ a_lineR a_away := by
    intro NL GR UL z b1 b2 b3 b4
    unfold wX_takePair_127
    rw [cx, cy, cc, nx, ny]
    refine nm_e ⟨iy, ix, nm_e ?_⟩
    by_cases h0 : n = 0
    · subst h0
      refine br_t (hc.trans nI_0) ⟨ic, nm_e (h186 NL GR UL _ f_awayBroken _ b1 b2 b3 b4 (fi_bi H5 ?_) (fun i hi => pk_un hi) pk_us)⟩
      exact decide_eq_true (fi_off.mp rfl)
    · have e6 := H6 (by omega)
      refine br_f (by rw [hc]; exact nI_ne0 (by omega) (by omega)) ⟨ic, ?_⟩
      rw [e6]
      refine br_c (fun h => h186 NL GR UL _ f_awayBroken a_away b1 b2 b3 b4 (fi_bi H5 (decide_eq_true (fi_off.mp h))) (fun _ _ => rfl) e6) (fun h => nm_e (h186 NL GR UL _ _ a_away b1 b2 b3 b4 (fi_bs hcell (decide_eq_false (fun z => h (fi_off.mpr z)))) (fun _ _ => rfl) e6))
  have h97 : ∀ (NL GR z : Int32), fi_Bt f_notLess NL c (!fi_al (fun i => decide (f i < g i)) (n + 1)) → fi_Bt f_greater GR c (!fi_al (fun i => decide (f i ≤ g i)) (n + 1)) → fi_Bt f_unlike (f_unlike ||| z) c (!fi_al (fun i => decide (f i = g i)) (n + 1)) → wX_takePair_97 post (nI x) (nI y) (nI c) (fi_b c) z f_unlike f_count NL GR f_unlike f_alike f_awayBroken f_sumBroken a_now a_first a_least a_greatest a_gap a_some a_someCount a_lineState a_lineP a_lineQ a_lineR a_away := by
    intro NL GR z b1 b2 b3
    unfold wX_takePair_97
    rw [cx, cy, nx, ny]
    exact nm_e ⟨ix, iy, br_c (fun h => h127 NL GR _ _ b1 b2 b3 (fi_bs hcell (by rw [decide_eq_true h]; rfl))) (fun h => h127 NL GR _ _ b1 b2 b3 (fi_bk H4 (by rw [decide_eq_false h]; rfl)))⟩
  have h67 : ∀ (NL z : Int32), fi_Bt f_notLess NL c (!fi_al (fun i => decide (f i < g i)) (n + 1)) → fi_Bt f_greater (f_greater ||| z) c (!fi_al (fun i => decide (f i ≤ g i)) (n + 1)) → wX_takePair_67 post (nI x) (nI y) (nI c) (fi_b c) z f_greater f_count NL f_greater f_unlike f_alike f_awayBroken f_sumBroken a_now a_first a_least a_greatest a_gap a_some a_someCount a_lineState a_lineP a_lineQ a_lineR a_away := by
    intro NL z b1 b2
    unfold wX_takePair_67
    rw [cx, cy, nx, ny]
    exact nm_e ⟨ix, iy, br_c (fun h => h97 NL _ _ b1 b2 (fi_bk H3 (decide_eq_true h))) (fun h => h97 NL _ _ b1 b2 (fi_bs hcell (decide_eq_false h)))⟩
  have h37 : ∀ (z : Int32), fi_Bt f_notLess (f_notLess ||| z) c (!fi_al (fun i => decide (f i < g i)) (n + 1)) → wX_takePair_37 post (nI x) (nI y) (nI c) (fi_b c) z f_notLess f_count f_notLess f_greater f_unlike f_alike f_awayBroken f_sumBroken a_now a_first a_least a_greatest a_gap a_some a_someCount a_lineState a_lineP a_lineQ a_lineR a_away := by
    intro z b1
    unfold wX_takePair_37
    rw [cx, cy, nx, ny]
    exact nm_e ⟨ix, iy, br_c (fun h => h67 _ _ b1 (fi_bk H2 (decide_eq_true h))) (fun h => h67 _ _ b1 (fi_bs hcell (decide_eq_false h)))⟩
  unfold wpX_takePair
  dsimp only
  rw [cx, cy, nx, ny]
  refine nm_r (e' := nI c) (by rw [← ec]; exact fi_cell x y) (nm_r (e' := fi_b c) rfl ⟨ix, iy, br_c (fun h => h37 _ (fi_bk H1 (decide_eq_true h))) (fun h => h37 _ (fi_bs hcell (decide_eq_false h)))⟩)
end
end
section
/-! ===== takeSums ===== -/
theorem fi_lb : ∀ i, i < 64 → ((1 : Int64) <<< ((nI i).toInt64 &&& 63)).toBitVec = BitVec.twoPow 64 i := by decide +kernel
theorem fi_sums1 {V : Nat → Int32} {n j : Nat} {F : Int64} (H : fi_S V n F j) (h : fi_sm V j n = true) : fi_S V (n + 1) F j := by
  unfold fi_S at H ⊢
  rw [H, fi_al_s, h, Bool.and_true]
theorem fi_sums2 {V : Nat → Int32} {n i : Nat} {F : Int64} (hi : i < 64) (h : fi_sm V i n = false) : fi_S V (n + 1) (F ||| ((1 : Int64) <<< ((nI i).toInt64 &&& 63))) i := by
  unfold fi_S
  rw [Int64.toBitVec_or, fi_lb i hi, BitVec.getLsbD_or, BitVec.getLsbD_twoPow, fi_al_s, h, Bool.and_false]
  simp [hi]
theorem fi_sums3 {V : Nat → Int32} {m i j : Nat} {F : Int64} (hi : i < 64) (hj : j ≠ i) (H : fi_S V m F j) : fi_S V m (F ||| ((1 : Int64) <<< ((nI i).toInt64 &&& 63))) j := by
  unfold fi_S at H ⊢
  rw [Int64.toBitVec_or, fi_lb i hi, BitVec.getLsbD_or, BitVec.getLsbD_twoPow, H]
  have : ¬ i = j := fun z => hj z.symm
  simp [this]
section
variable {f_count : Int32} {f_notLess : Int32} {f_greater : Int32} {f_unlike : Int32} {f_alike : Int32} {f_awayBroken : Int32} {f_sumBroken : Int64} {a_now : (Nat → Int32)} {a_first : (Nat → Int32)} {a_least : (Nat → Int32)} {a_greatest : (Nat → Int32)} {a_gap : (Nat → Int32)} {a_some : (Nat → Int32)} {a_someCount : (Nat → Int32)} {a_lineState : (Nat → Int32)} {a_lineP : (Nat → Int32)} {a_lineQ : (Nat → Int32)} {a_lineR : (Nat → Int32)} {a_away : (Nat → Int32)}
theorem fi_ts2 {post : SX → Prop} {V : Nat → Int32} {n : Nat} (hnow : ∀ x, x < 4 → a_now x = V (4 * n + x)) (hp : ∀ F : Int64, (∀ j, j < 64 → fi_S V (n + 1) F j) → post (f_count, f_notLess, f_greater, f_unlike, f_alike, f_awayBroken, F, a_now, a_first, a_least, a_greatest, a_gap, a_some, a_someCount, a_lineState, a_lineP, a_lineQ, a_lineR, a_away)) : ∀ d i (F : Int64), i + d = 64 → (∀ j, j < i → fi_S V (n + 1) F j) → (∀ j, i ≤ j → j < 64 → fi_S V n F j) → wX_takeSums_2 post f_count f_notLess f_greater f_unlike f_alike f_awayBroken a_now a_first a_least a_greatest a_gap a_some a_someCount a_lineState a_lineP a_lineQ a_lineR a_away (d + 1) (nI i) F := by
  intro d
  induction d with
  | zero =>
    intro i F hi h1 h2
    have e : i = 64 := by omega
    subst e
    exact br_t (nI_le (a := 64) (b := 64) (Nat.le_refl 64) (by omega)) (hp F h1)
  | succ d ih =>
    intro i F hi h1 h2
    have hi' : i < 64 := by omega
    have e4 : nI i >>> ((4 : Int32) &&& 31) = nI (i / 16) := pk_shrN (by omega) _ 4 (by decide)
    have e2 : nI i >>> ((2 : Int32) &&& 31) = nI (i / 4) := pk_shrN (by omega) _ 2 (by decide)
    have e3 : nI (i / 4) &&& 3 = nI (i / 4 % 4) := pk_andN (by omega) 2 (by decide)
    have e0 : nI i &&& 3 = nI (i % 4) := pk_andN (by omega) 2 (by decide)
    refine br_f (nI_ge (a := i) (b := 64) hi' (by omega)) ?_
    rw [e4, e2, e3, e0, nI_clamp (show i / 16 < 2 ^ 31 by omega), nI_clamp (show i / 4 % 4 < 2 ^ 31 by omega), nI_clamp (show i % 4 < 2 ^ 31 by omega), hnow (i / 16) (by omega), hnow (i / 4 % 4) (by omega), hnow (i % 4) (by omega)]
    refine ⟨vp_in_nI (by omega) (by omega), vp_in_nI (by omega) (by omega), nm_e ⟨vp_in_nI (by omega) (by omega), br_c (fun h => nm_r (nI_1 i) (ih (i + 1) F (by omega) ?_ (fun j a b => h2 j (by omega) b))) (fun h => nm_e (nm_r (nI_1 i) (ih (i + 1) _ (by omega) ?_ ?_)))⟩⟩
    · exact lt_s h1 (fi_sums1 (h2 i (Nat.le_refl i) hi') (decide_eq_true h))
    · refine lt_s (fun j hj => fi_sums3 hi' (by omega) (h1 j hj)) (fi_sums2 hi' (decide_eq_false h))
    · exact fun j a b => fi_sums3 hi' (by omega) (h2 j (by omega) b)
theorem fi_takeSums {post : SX → Prop} {V : Nat → Int32} {n : Nat} (hnow : ∀ x, x < 4 → a_now x = V (4 * n + x)) (H : ∀ j, j < 64 → fi_S V n f_sumBroken j) (hp : ∀ F : Int64, (∀ j, j < 64 → fi_S V (n + 1) F j) → post (f_count, f_notLess, f_greater, f_unlike, f_alike, f_awayBroken, F, a_now, a_first, a_least, a_greatest, a_gap, a_some, a_someCount, a_lineState, a_lineP, a_lineQ, a_lineR, a_away)) : wpX_takeSums post (f_count, f_notLess, f_greater, f_unlike, f_alike, f_awayBroken, f_sumBroken, a_now, a_first, a_least, a_greatest, a_gap, a_some, a_someCount, a_lineState, a_lineP, a_lineQ, a_lineR, a_away) := by
  unfold wpX_takeSums
  exact ⟨65, fi_ts2 hnow hp 64 0 f_sumBroken (by omega) (fun j hj => absurd hj (Nat.not_lt_zero j)) (fun j _ h => H j h)⟩
end
end
section
/-! ===== sample: the two loops ===== -/
def fi_up (n m : Nat) (z : Nat) : Nat := if z < m then n + 1 else n
theorem fi_up_t {n m z : Nat} (h : z < m) : fi_up n m z = n + 1 := if_pos h
theorem fi_up_f {n m z : Nat} (h : ¬ z < m) : fi_up n m z = n := if_neg h
theorem fi_up_e {n m z : Nat} (h : z ≠ m) : fi_up n (m + 1) z = fi_up n m z := by
  unfold fi_up
  by_cases e : z < m
  · rw [if_pos e, if_pos (by omega)]
  · rw [if_neg e, if_neg (by omega)]
theorem fi_D_arr {f : Nat → Int32} {n : Nat} {sc : Int32} {s s' : Nat → Int32} (k : ∀ j, j < 4 → s' j = s j) (H : fi_D f n sc s) : fi_D f n sc s' := by
  obtain ⟨c, c1, c2, c3⟩ := H
  refine ⟨c, c1, c2, fun h => ?_⟩
  obtain ⟨d1, d2, d3⟩ := c3 h
  refine ⟨fun j hj => ?_, fun i hi => ?_, fun j hj => ?_⟩
  · rw [k j (by omega), k (j + 1) (by omega)]
    exact d1 j hj
  · obtain ⟨j, hj, e⟩ := d2 i hi
    exact ⟨j, hj, by rw [k j (by omega)]; exact e⟩
  · obtain ⟨i, hi, e⟩ := d3 j hj
    exact ⟨i, hi, by rw [k j (by omega)]; exact e⟩
section
variable {f_count : Int32} {f_notLess : Int32} {f_greater : Int32} {f_unlike : Int32} {f_alike : Int32} {f_awayBroken : Int32} {f_sumBroken : Int64} {a_now : (Nat → Int32)} {a_first : (Nat → Int32)} {a_least : (Nat → Int32)} {a_greatest : (Nat → Int32)} {a_gap : (Nat → Int32)} {a_some : (Nat → Int32)} {a_someCount : (Nat → Int32)} {a_lineState : (Nat → Int32)} {a_lineP : (Nat → Int32)} {a_lineQ : (Nat → Int32)} {a_lineR : (Nat → Int32)} {a_away : (Nat → Int32)}
theorem fi_s97 {post : Int32 → SX → Prop} {J : Int32 → Int32 → Int32 → Int32 → Int32 → Int32 → Int32 → Int64 → (Nat → Int32) → (Nat → Int32) → (Nat → Int32) → (Nat → Int32) → (Nat → Int32) → (Nat → Int32) → (Nat → Int32) → (Nat → Int32) → (Nat → Int32) → (Nat → Int32) → (Nat → Int32) → (Nat → Int32) → Prop} {V : Nat → Int32} {n x : Nat} (hx : x < 4) (hn : n ≤ 100) (hc : f_count = nI n) (hV : ∀ i x, i ≤ n → x < 4 → fi_ok (V (4 * i + x))) (hnow : ∀ x, x < 4 → a_now x = V (4 * n + x))
    (hJ : ∀ (f_notLess : Int32) (f_greater : Int32) (f_unlike : Int32) (f_alike : Int32) (f_awayBroken : Int32) (a_first : (Nat → Int32)) (a_least : (Nat → Int32)) (a_greatest : (Nat → Int32)) (a_gap : (Nat → Int32)) (a_some : (Nat → Int32)) (a_someCount : (Nat → Int32)) (a_lineState : (Nat → Int32)) (a_lineP : (Nat → Int32)) (a_lineQ : (Nat → Int32)) (a_lineR : (Nat → Int32)) (a_away : (Nat → Int32)), fi_W V (fi_up n (x + 1)) (fi_up n (4 * (x + 1))) f_count f_notLess f_greater f_unlike f_alike f_awayBroken f_sumBroken a_now a_first a_least a_greatest a_gap a_some a_someCount a_lineState a_lineP a_lineQ a_lineR a_away → J (nI (x + 1)) f_count f_notLess f_greater f_unlike f_alike f_awayBroken f_sumBroken a_now a_first a_least a_greatest a_gap a_some a_someCount a_lineState a_lineP a_lineQ a_lineR a_away) : ∀ (d y : Nat) (f_notLess : Int32) (f_greater : Int32) (f_unlike : Int32) (f_alike : Int32) (f_awayBroken : Int32) (a_first : (Nat → Int32)) (a_least : (Nat → Int32)) (a_greatest : (Nat → Int32)) (a_gap : (Nat → Int32)) (a_some : (Nat → Int32)) (a_someCount : (Nat → Int32)) (a_lineState : (Nat → Int32)) (a_lineP : (Nat → Int32)) (a_lineQ : (Nat → Int32)) (a_lineR : (Nat → Int32)) (a_away : (Nat → Int32)), y + d = 4 → fi_W V (fi_up n (x + 1)) (fi_up n (4 * x + y)) f_count f_notLess f_greater f_unlike f_alike f_awayBroken f_sumBroken a_now a_first a_least a_greatest a_gap a_some a_someCount a_lineState a_lineP a_lineQ a_lineR a_away → wX_sample_97 post J (nI x) (d + 1) (nI y) f_count f_notLess f_greater f_unlike f_alike f_awayBroken f_sumBroken a_now a_first a_least a_greatest a_gap a_some a_someCount a_lineState a_lineP a_lineQ a_lineR a_away := by
  intro d
  induction d with
  | zero =>
    intro y f_notLess f_greater f_unlike f_alike f_awayBroken a_first a_least a_greatest a_gap a_some a_someCount a_lineState a_lineP a_lineQ a_lineR a_away hy H
    have e : y = 4 := by omega
    subst e
    exact br_t (nI_le (a := 4) (b := 4) (Nat.le_refl 4) (by omega)) (nm_r (nI_1 x) (hJ f_notLess f_greater f_unlike f_alike f_awayBroken a_first a_least a_greatest a_gap a_some a_someCount a_lineState a_lineP a_lineQ a_lineR a_away H))
  | succ d ih =>
    intro y f_notLess f_greater f_unlike f_alike f_awayBroken a_first a_least a_greatest a_gap a_some a_someCount a_lineState a_lineP a_lineQ a_lineR a_away hd H
    have hy : y < 4 := by omega
    refine br_f (nI_ge (a := y) (b := 4) hy (by omega)) ?_
    by_cases hxy : x = y
    · refine br_t (congrArg nI hxy) (nm_r (nI_1 y) (ih (y + 1) f_notLess f_greater f_unlike f_alike f_awayBroken a_first a_least a_greatest a_gap a_some a_someCount a_lineState a_lineP a_lineQ a_lineR a_away (by omega) ⟨H.1, fun x' y' hx' hy' hn' => ?_⟩))
      have e : fi_up n (4 * x + (y + 1)) (4 * x' + y') = fi_up n (4 * x + y) (4 * x' + y') := fi_up_e (m := 4 * x + y) (by omega)
      rw [e]
      exact H.2 x' y' hx' hy' hn'
    · have hP := H.2 x y hx hy hxy
      rw [fi_up_f (Nat.lt_irrefl _)] at hP
      refine br_f (fun z => hxy ((nI_eq (by omega) (by omega)).mp z)) (fi_takePair (n := n) hx hy hn hc (fun i hi => hV i x hi hx) (fun i hi => hV i y hi hy) (hnow x hx) (hnow y hy) hP (fun NL GR UL AL AB T P Q R W b1 b2 b3 b4 b5 t p q r w hN => nm_r (nI_1 y) (ih (y + 1) NL GR UL AL AB a_first a_least a_greatest a_gap a_some a_someCount T P Q R W (by omega) ⟨H.1, fun x' y' hx' hy' hn' => ?_⟩)))
      by_cases hcell : 4 * x' + y' = 4 * x + y
      · have ex : x' = x := by omega
        have ey : y' = y := by omega
        subst ex
        subst ey
        rw [fi_up_t (by omega)]
        exact hN
      · have e : fi_up n (4 * x + (y + 1)) (4 * x' + y') = fi_up n (4 * x + y) (4 * x' + y') := fi_up_e (m := 4 * x + y) hcell
        rw [e, b1 _ (by omega) hcell, b2 _ (by omega) hcell, b3 _ (by omega) hcell, b4 _ (by omega) hcell, b5 _ (by omega) hcell, t _ hcell, p _ hcell, q _ hcell, r _ hcell, w _ hcell]
        exact H.2 x' y' hx' hy' hn'
theorem fi_s75 {post : Int32 → SX → Prop} {V : Nat → Int32} {n : Nat} (hn : n < 100) (hc : f_count = nI n) (hV : ∀ i x, i ≤ n → x < 4 → fi_ok (V (4 * i + x))) (hnow : ∀ x, x < 4 → a_now x = V (4 * n + x)) (hS : ∀ j, j < 64 → fi_S V n f_sumBroken j)
    (hp : ∀ (f_notLess : Int32) (f_greater : Int32) (f_unlike : Int32) (f_alike : Int32) (f_awayBroken : Int32) (f_sumBroken : Int64) (a_first : (Nat → Int32)) (a_least : (Nat → Int32)) (a_greatest : (Nat → Int32)) (a_gap : (Nat → Int32)) (a_some : (Nat → Int32)) (a_someCount : (Nat → Int32)) (a_lineState : (Nat → Int32)) (a_lineP : (Nat → Int32)) (a_lineQ : (Nat → Int32)) (a_lineR : (Nat → Int32)) (a_away : (Nat → Int32)), fi_R (n + 1) V (nI (n + 1)) f_notLess f_greater f_unlike f_alike f_awayBroken f_sumBroken a_now a_first a_least a_greatest a_gap a_some a_someCount a_lineState a_lineP a_lineQ a_lineR a_away → post (nI (n + 1)) (nI (n + 1), f_notLess, f_greater, f_unlike, f_alike, f_awayBroken, f_sumBroken, a_now, a_first, a_least, a_greatest, a_gap, a_some, a_someCount, a_lineState, a_lineP, a_lineQ, a_lineR, a_away)) : ∀ (d x : Nat) (f_notLess : Int32) (f_greater : Int32) (f_unlike : Int32) (f_alike : Int32) (f_awayBroken : Int32) (a_first : (Nat → Int32)) (a_least : (Nat → Int32)) (a_greatest : (Nat → Int32)) (a_gap : (Nat → Int32)) (a_some : (Nat → Int32)) (a_someCount : (Nat → Int32)) (a_lineState : (Nat → Int32)) (a_lineP : (Nat → Int32)) (a_lineQ : (Nat → Int32)) (a_lineR : (Nat → Int32)) (a_away : (Nat → Int32)), x + d = 4 → fi_W V (fi_up n x) (fi_up n (4 * x)) f_count f_notLess f_greater f_unlike f_alike f_awayBroken f_sumBroken a_now a_first a_least a_greatest a_gap a_some a_someCount a_lineState a_lineP a_lineQ a_lineR a_away → wX_sample_75 post (d + 1) (nI x) f_count f_notLess f_greater f_unlike f_alike f_awayBroken f_sumBroken a_now a_first a_least a_greatest a_gap a_some a_someCount a_lineState a_lineP a_lineQ a_lineR a_away := by
  intro d
  induction d with
  | zero =>
    intro x f_notLess f_greater f_unlike f_alike f_awayBroken a_first a_least a_greatest a_gap a_some a_someCount a_lineState a_lineP a_lineQ a_lineR a_away hx H
    have e : x = 4 := by omega
    subst e
    refine br_t (nI_le (a := 4) (b := 4) (Nat.le_refl 4) (by omega)) (fi_takeSums hnow hS (fun F hF => nm_r (e' := nI (n + 1)) (by rw [hc]; exact nI_1 n) (hp _ _ _ _ _ _ _ _ _ _ _ _ _ _ _ _ _ ⟨by omega, rfl, fun i x hi hx => hV i x (by omega) hx, ⟨fun x hx => ?_, fun x y hx hy hxy => ?_⟩, hF⟩)))
    · have h := H.1 x hx
      rw [fi_up_t hx] at h
      exact h
    · have h := H.2 x y hx hy hxy
      rw [fi_up_t (by omega)] at h
      exact h
  | succ d ih =>
    intro x f_notLess f_greater f_unlike f_alike f_awayBroken a_first a_least a_greatest a_gap a_some a_someCount a_lineState a_lineP a_lineQ a_lineR a_away hd H
    have hx : x < 4 := by omega
    refine br_f (nI_ge (a := x) (b := 4) hx (by omega)) ?_
    rw [nI_clamp (show x < 2 ^ 31 by omega), hnow x hx]
    have hP := H.1 x hx
    rw [fi_up_f (Nat.lt_irrefl _)] at hP
    refine ⟨vp_in_nI hx (by omega), fi_takeValue (f := fi_col V x) (n := n) hx (by omega) hc (fun i hi => hV i x hi hx) hP (fun F L G A S C h1 h2 h3 h4 h5 h6 h7 => ⟨5, fi_s97 hx (by omega) hc hV hnow (fun f_notLess f_greater f_unlike f_alike f_awayBroken a_first a_least a_greatest a_gap a_some a_someCount a_lineState a_lineP a_lineQ a_lineR a_away H' => ih (x + 1) f_notLess f_greater f_unlike f_alike f_awayBroken a_first a_least a_greatest a_gap a_some a_someCount a_lineState a_lineP a_lineQ a_lineR a_away (by omega) H') 4 0 f_notLess f_greater f_unlike f_alike f_awayBroken F L G A S C a_lineState a_lineP a_lineQ a_lineR a_away (by omega) ⟨fun z hz => ?_, H.2⟩⟩)⟩
    by_cases hzx : z = x
    · subst hzx
      rw [fi_up_t (by omega)]
      exact h7
    · have e : fi_up n (x + 1) z = fi_up n x z := fi_up_e hzx
      have hz' := H.1 z hz
      rw [e, h1 z hzx, h2 z hzx, h3 z hzx, h4 z hzx, h6 z hzx]
      exact ⟨hz'.1, fi_D_arr (fun j hj => h5 _ (fun j' hj' => by omega)) hz'.2⟩
end
end
section
/-! ===== sample, clear, samples, the constructors ===== -/
theorem fi_n10 : ¬ (1 : Int32) = 0 := by decide
theorem fi_ok_iff {v : Int32} : fi_ok v ↔ ¬ v < (-100) ∧ ¬ 100 < v := by
  have h1 : (-100 : Int32).toInt = -100 := by decide
  have h2 : (100 : Int32).toInt = 100 := by decide
  unfold fi_ok
  rw [Int32.lt_iff_toInt_lt, Int32.lt_iff_toInt_lt, h1, h2]
  omega
theorem fi_isVal_ok {post : Int32 → Prop} {v : Int32} (h : fi_ok v) (hp : post 1) : wpX_isValue post v :=
  br_f (fi_ok_iff.mp h).1 (br_f (fi_ok_iff.mp h).2 hp)
theorem fi_isVal_no {post : Int32 → Prop} {v : Int32} (h : ¬ fi_ok v) (hp : post 0) : wpX_isValue post v :=
  br_c (fun _ => hp) (fun a => br_c (fun _ => hp) (fun b => absurd (fi_ok_iff.mpr ⟨a, b⟩) h))
section
variable {f_count : Int32} {f_notLess : Int32} {f_greater : Int32} {f_unlike : Int32} {f_alike : Int32} {f_awayBroken : Int32} {f_sumBroken : Int64} {a_now : (Nat → Int32)} {a_first : (Nat → Int32)} {a_least : (Nat → Int32)} {a_greatest : (Nat → Int32)} {a_gap : (Nat → Int32)} {a_some : (Nat → Int32)} {a_someCount : (Nat → Int32)} {a_lineState : (Nat → Int32)} {a_lineP : (Nat → Int32)} {a_lineQ : (Nat → Int32)} {a_lineR : (Nat → Int32)} {a_away : (Nat → Int32)}
variable {f_size : Int32} {f_p : Int32} {f_q : Int32} {f_r : Int32} {a_values : (Nat → Int32)} {a_few : (Nat → Int32)}
theorem fi_fits_ok {post : Int32 → Prop} {v : Int32} (h : fi_ok v) (hp : post 1) : wpY_fits post (f_size, f_p, f_q, f_r, a_values, a_few) v :=
  br_f (fi_ok_iff.mp h).1 (br_f (fi_ok_iff.mp h).2 hp)
theorem fi_fits_no {post : Int32 → Prop} {v : Int32} (h : ¬ fi_ok v) (hp : post 0) : wpY_fits post (f_size, f_p, f_q, f_r, a_values, a_few) v :=
  br_c (fun _ => hp) (fun a => br_c (fun _ => hp) (fun b => absurd (fi_ok_iff.mpr ⟨a, b⟩) h))
theorem fi_X_sample_bad {post : Int32 → SX → Prop} {a b c d : Int32} (h : ¬ (fi_ok a ∧ fi_ok b ∧ fi_ok c ∧ fi_ok d)) (hp : post (-1) (f_count, f_notLess, f_greater, f_unlike, f_alike, f_awayBroken, f_sumBroken, a_now, a_first, a_least, a_greatest, a_gap, a_some, a_someCount, a_lineState, a_lineP, a_lineQ, a_lineR, a_away)) : wpX_sample post (f_count, f_notLess, f_greater, f_unlike, f_alike, f_awayBroken, f_sumBroken, a_now, a_first, a_least, a_greatest, a_gap, a_some, a_someCount, a_lineState, a_lineP, a_lineQ, a_lineR, a_away) a b c d := by
  unfold wpX_sample
  dsimp only
  by_cases ha : fi_ok a
  · refine fi_isVal_ok ha (br_f fi_n10 ?_)
    by_cases hb : fi_ok b
    · refine fi_isVal_ok hb (br_f fi_n10 ?_)
      by_cases hc : fi_ok c
      · refine fi_isVal_ok hc (br_f fi_n10 ?_)
        by_cases hd : fi_ok d
        · exact absurd ⟨ha, hb, hc, hd⟩ h
        · exact fi_isVal_no hd (br_t rfl hp)
      · exact fi_isVal_no hc (br_t rfl hp)
    · exact fi_isVal_no hb (br_t rfl hp)
  · exact fi_isVal_no ha (br_t rfl hp)
theorem fi_Y_sample_bad {post : Int32 → SY → Prop} {a b c d : Int32} (h : ¬ (fi_ok a ∧ fi_ok b ∧ fi_ok c ∧ fi_ok d)) (hp : post (-1) (f_size, f_p, f_q, f_r, a_values, a_few)) : wpY_sample post (f_size, f_p, f_q, f_r, a_values, a_few) a b c d := by
  unfold wpY_sample
  dsimp only
  by_cases ha : fi_ok a
  · refine fi_fits_ok ha (br_f fi_n10 ?_)
    by_cases hb : fi_ok b
    · refine fi_fits_ok hb (br_f fi_n10 ?_)
      by_cases hc : fi_ok c
      · refine fi_fits_ok hc (br_f fi_n10 ?_)
        by_cases hd : fi_ok d
        · exact absurd ⟨ha, hb, hc, hd⟩ h
        · exact fi_fits_no hd (br_t rfl hp)
      · exact fi_fits_no hc (br_t rfl hp)
    · exact fi_fits_no hb (br_t rfl hp)
  · exact fi_fits_no ha (br_t rfl hp)
theorem fi_X_sample_full {post : Int32 → SX → Prop} {a b c d : Int32} (ha : fi_ok a) (hb : fi_ok b) (hc : fi_ok c) (hd : fi_ok d) (hn : ¬ f_count < 100) (hp : post (-2) (f_count, f_notLess, f_greater, f_unlike, f_alike, f_awayBroken, f_sumBroken, a_now, a_first, a_least, a_greatest, a_gap, a_some, a_someCount, a_lineState, a_lineP, a_lineQ, a_lineR, a_away)) : wpX_sample post (f_count, f_notLess, f_greater, f_unlike, f_alike, f_awayBroken, f_sumBroken, a_now, a_first, a_least, a_greatest, a_gap, a_some, a_someCount, a_lineState, a_lineP, a_lineQ, a_lineR, a_away) a b c d := by
  unfold wpX_sample
  dsimp only
  exact fi_isVal_ok ha (br_f fi_n10 (fi_isVal_ok hb (br_f fi_n10 (fi_isVal_ok hc (br_f fi_n10 (fi_isVal_ok hd (br_f fi_n10 (br_f hn hp))))))))
theorem fi_Y_sample_full {post : Int32 → SY → Prop} {a b c d : Int32} (ha : fi_ok a) (hb : fi_ok b) (hc : fi_ok c) (hd : fi_ok d) (hn : ¬ f_size < 100) (hp : post (-2) (f_size, f_p, f_q, f_r, a_values, a_few)) : wpY_sample post (f_size, f_p, f_q, f_r, a_values, a_few) a b c d := by
  unfold wpY_sample
  dsimp only
  exact fi_fits_ok ha (br_f fi_n10 (fi_fits_ok hb (br_f fi_n10 (fi_fits_ok hc (br_f fi_n10 (fi_fits_ok hd (br_f fi_n10 (br_f hn hp))))))))
theorem fi_X_sample_ok {post : Int32 → SX → Prop} {a b c d : Int32} (ha : fi_ok a) (hb : fi_ok b) (hc : fi_ok c) (hd : fi_ok d) (hn : f_count < 100) (hp : ∃ k, wX_sample_75 post k 0 f_count f_notLess f_greater f_unlike f_alike f_awayBroken f_sumBroken (upd (upd (upd (upd a_now 0 a) 1 b) 2 c) 3 d) a_first a_least a_greatest a_gap a_some a_someCount a_lineState a_lineP a_lineQ a_lineR a_away) : wpX_sample post (f_count, f_notLess, f_greater, f_unlike, f_alike, f_awayBroken, f_sumBroken, a_now, a_first, a_least, a_greatest, a_gap, a_some, a_someCount, a_lineState, a_lineP, a_lineQ, a_lineR, a_away) a b c d := by
  unfold wpX_sample
  dsimp only
  exact fi_isVal_ok ha (br_f fi_n10 (fi_isVal_ok hb (br_f fi_n10 (fi_isVal_ok hc (br_f fi_n10 (fi_isVal_ok hd (br_f fi_n10 (br_t hn (nm_e (nm_e (nm_e (nm_e hp)))))))))))) 
def fi_put (V : Nat → Int32) (n : Nat) (a b c d : Int32) : Nat → Int32 := upd (upd (upd (upd V (4 * n) a) (4 * n + 1) b) (4 * n + 2) c) (4 * n + 3) d
theorem fi_Y_sample_ok {post : Int32 → SY → Prop} {a b c d : Int32} {n : Nat} (ha : fi_ok a) (hb : fi_ok b) (hc : fi_ok c) (hd : fi_ok d) (hs : f_size = nI n) (hn : n < 100) (hp : post (nI (n + 1)) (nI (n + 1), f_p, f_q, f_r, fi_put a_values n a b c d, a_few)) : wpY_sample post (f_size, f_p, f_q, f_r, a_values, a_few) a b c d := by
  unfold wpY_sample
  dsimp only
  subst hs
  have e0 : 4 * nI n = nI (4 * n) := pk_mul 4 n
  have e2 : nI (4 * n) + 2 = nI (4 * n + 2) := nI_add (4 * n) 2
  have e3 : nI (4 * n) + 3 = nI (4 * n + 3) := nI_add (4 * n) 3
  rw [e0, nI_1 (4 * n), e2, e3, nI_clamp (show 4 * n < 2 ^ 31 by omega), nI_clamp (show 4 * n + 1 < 2 ^ 31 by omega), nI_clamp (show 4 * n + 2 < 2 ^ 31 by omega), nI_clamp (show 4 * n + 3 < 2 ^ 31 by omega)]
  exact fi_fits_ok ha (br_f fi_n10 (fi_fits_ok hb (br_f fi_n10 (fi_fits_ok hc (br_f fi_n10 (fi_fits_ok hd (br_f fi_n10 (br_t (nI_lt (a := n) (b := 100) hn (by omega)) ⟨vp_in_nI (by omega) (by omega), nm_e ⟨vp_in_nI (by omega) (by omega), nm_e ⟨vp_in_nI (by omega) (by omega), nm_e ⟨vp_in_nI (by omega) (by omega), nm_e (nm_r (nI_1 n) hp)⟩⟩⟩⟩))))))))
theorem fi_put_lo {V : Nat → Int32} {n : Nat} {a b c d : Int32} {i : Nat} (h : i < 4 * n) : fi_put V n a b c d i = V i := by
  unfold fi_put
  rw [pk_un (by omega), pk_un (by omega), pk_un (by omega), pk_un (by omega)]
theorem fi_put_0 {V : Nat → Int32} {n : Nat} {a b c d : Int32} : fi_put V n a b c d (4 * n) = a := by
  unfold fi_put
  rw [pk_un (by omega), pk_un (by omega), pk_un (by omega), pk_us]
theorem fi_put_1 {V : Nat → Int32} {n : Nat} {a b c d : Int32} : fi_put V n a b c d (4 * n + 1) = b := by
  unfold fi_put
  rw [pk_un (by omega), pk_un (by omega), pk_us]
theorem fi_put_2 {V : Nat → Int32} {n : Nat} {a b c d : Int32} : fi_put V n a b c d (4 * n + 2) = c := by
  unfold fi_put
  rw [pk_un (by omega), pk_us]
theorem fi_put_3 {V : Nat → Int32} {n : Nat} {a b c d : Int32} : fi_put V n a b c d (4 * n + 3) = d := pk_us
theorem fi_put_now {V : Nat → Int32} {n : Nat} {a b c d : Int32} : ∀ x, x < 4 → upd (upd (upd (upd a_now 0 a) 1 b) 2 c) 3 d x = fi_put V n a b c d (4 * n + x) := by
  intro x hx
  have h : x = 0 ∨ x = 1 ∨ x = 2 ∨ x = 3 := by omega
  rcases h with h | h | h | h <;> subst h
  · rw [Nat.add_zero, fi_put_0, pk_un (by omega), pk_un (by omega), pk_un (by omega), pk_us]
  · rw [fi_put_1, pk_un (by omega), pk_un (by omega), pk_us]
  · rw [fi_put_2, pk_un (by omega), pk_us]
  · rw [fi_put_3, pk_us]
theorem fi_put_ok {V : Nat → Int32} {n : Nat} {a b c d : Int32} (ha : fi_ok a) (hb : fi_ok b) (hc : fi_ok c) (hd : fi_ok d) (h : ∀ i x, i < n → x < 4 → fi_ok (V (4 * i + x))) : ∀ i x, i ≤ n → x < 4 → fi_ok (fi_put V n a b c d (4 * i + x)) := by
  intro i x hi hx
  by_cases e : i = n
  · subst e
    have h : x = 0 ∨ x = 1 ∨ x = 2 ∨ x = 3 := by omega
    rcases h with h | h | h | h <;> subst h
    · rw [Nat.add_zero, fi_put_0]; exact ha
    · rw [fi_put_1]; exact hb
    · rw [fi_put_2]; exact hc
    · rw [fi_put_3]; exact hd
  · rw [fi_put_lo (by omega)]
    exact h i x (by omega) hx
theorem fi_sampleX {post : Int32 → SX → Prop} {V : Nat → Int32} {a b c d : Int32} {n : Nat} (hn : n < 100) (ha : fi_ok a) (hb : fi_ok b) (hc : fi_ok c) (hd : fi_ok d) (H : fi_R n V f_count f_notLess f_greater f_unlike f_alike f_awayBroken f_sumBroken a_now a_first a_least a_greatest a_gap a_some a_someCount a_lineState a_lineP a_lineQ a_lineR a_away) (hp : ∀ (f_count : Int32) (f_notLess : Int32) (f_greater : Int32) (f_unlike : Int32) (f_alike : Int32) (f_awayBroken : Int32) (f_sumBroken : Int64) (a_now : (Nat → Int32)) (a_first : (Nat → Int32)) (a_least : (Nat → Int32)) (a_greatest : (Nat → Int32)) (a_gap : (Nat → Int32)) (a_some : (Nat → Int32)) (a_someCount : (Nat → Int32)) (a_lineState : (Nat → Int32)) (a_lineP : (Nat → Int32)) (a_lineQ : (Nat → Int32)) (a_lineR : (Nat → Int32)) (a_away : (Nat → Int32)), fi_R (n + 1) (fi_put V n a b c d) (nI (n + 1)) f_notLess f_greater f_unlike f_alike f_awayBroken f_sumBroken a_now a_first a_least a_greatest a_gap a_some a_someCount a_lineState a_lineP a_lineQ a_lineR a_away → post (nI (n + 1)) (nI (n + 1), f_notLess, f_greater, f_unlike, f_alike, f_awayBroken, f_sumBroken, a_now, a_first, a_least, a_greatest, a_gap, a_some, a_someCount, a_lineState, a_lineP, a_lineQ, a_lineR, a_away)) : wpX_sample post (f_count, f_notLess, f_greater, f_unlike, f_alike, f_awayBroken, f_sumBroken, a_now, a_first, a_least, a_greatest, a_gap, a_some, a_someCount, a_lineState, a_lineP, a_lineQ, a_lineR, a_away) a b c d := by
  obtain ⟨_, h1, h2, h3, h4⟩ := H
  have hag : ∀ i x, i < n → x < 4 → V (4 * i + x) = fi_put V n a b c d (4 * i + x) := fun i x hi hx => (fi_put_lo (by omega)).symm
  have hW := fi_W_congr hag h3
  have e0 : fi_up n 0 = (fun _ => n) := funext (fun z => fi_up_f (Nat.not_lt_zero z))
  refine fi_X_sample_ok ha hb hc hd (by rw [h1]; exact nI_lt (a := n) (b := 100) hn (by omega)) ⟨5, fi_s75 (V := fi_put V n a b c d) hn h1 (fi_put_ok ha hb hc hd h2) fi_put_now (fun j hj => fi_S_congr hj hag (h4 j hj)) (fun f_notLess f_greater f_unlike f_alike f_awayBroken f_sumBroken a_first a_least a_greatest a_gap a_some a_someCount a_lineState a_lineP a_lineQ a_lineR a_away H' => hp (f_count) f_notLess f_greater f_unlike f_alike f_awayBroken f_sumBroken _ a_first a_least a_greatest a_gap a_some a_someCount a_lineState a_lineP a_lineQ a_lineR a_away H') 4 0 f_notLess f_greater f_unlike f_alike f_awayBroken a_first a_least a_greatest a_gap a_some a_someCount a_lineState a_lineP a_lineQ a_lineR a_away (by omega) ?_⟩
  show fi_W _ (fi_up n 0) (fi_up n 0) _ _ _ _ _ _ _ _ _ _ _ _ _ _ _ _ _ _ _
  rw [e0]
  exact hW
end
theorem i_vc_sample {k : Nat} {u : SX} {v : SY} (I : i_Rel k u v) (hk : k + 5 ≤ 2560) (v1 : Int32) (v2 : Int32) (v3 : Int32) (v4 : Int32) : wpX_sample (fun r u' => wpY_sample (fun r' v' => r' = r ∧ i_Rel (k + 5) u' v') v v1 v2 v3 v4) u v1 v2 v3 v4 := by
  obtain ⟨f_count, f_notLess, f_greater, f_unlike, f_alike, f_awayBroken, f_sumBroken, a_now, a_first, a_least, a_greatest, a_gap, a_some, a_someCount, a_lineState, a_lineP, a_lineQ, a_lineR, a_away⟩ := u
  obtain ⟨f_size, f_p, f_q, f_r, a_values, a_few⟩ := v
  obtain ⟨n, hs, H⟩ := I
  by_cases h : fi_ok v1 ∧ fi_ok v2 ∧ fi_ok v3 ∧ fi_ok v4
  · obtain ⟨ha, hb, hc, hd⟩ := h
    by_cases hn : n < 100
    · exact fi_sampleX hn ha hb hc hd H (fun f_count f_notLess f_greater f_unlike f_alike f_awayBroken f_sumBroken a_now a_first a_least a_greatest a_gap a_some a_someCount a_lineState a_lineP a_lineQ a_lineR a_away H' => fi_Y_sample_ok ha hb hc hd hs hn ⟨rfl, n + 1, rfl, H'⟩)
    · have hN : ¬ nI n < 100 := nI_nlt (a := n) (b := 100) (by omega) (by have := H.1; omega)
      exact fi_X_sample_full ha hb hc hd (by rw [H.2.1]; exact hN) (fi_Y_sample_full ha hb hc hd (by rw [hs]; exact hN) ⟨rfl, n, hs, H⟩)
  · exact fi_X_sample_bad h (fi_Y_sample_bad h ⟨rfl, n, hs, H⟩)
/-! ===== clear ===== -/
section
variable {f_count : Int32} {f_notLess : Int32} {f_greater : Int32} {f_unlike : Int32} {f_alike : Int32} {f_awayBroken : Int32} {f_sumBroken : Int64} {a_now : (Nat → Int32)} {a_first : (Nat → Int32)} {a_least : (Nat → Int32)} {a_greatest : (Nat → Int32)} {a_gap : (Nat → Int32)} {a_some : (Nat → Int32)} {a_someCount : (Nat → Int32)} {a_lineState : (Nat → Int32)} {a_lineP : (Nat → Int32)} {a_lineQ : (Nat → Int32)} {a_lineR : (Nat → Int32)} {a_away : (Nat → Int32)}
theorem fi_R0 {V : Nat → Int32} (hC : ∀ j, j < 4 → a_someCount j = 0) (hT : ∀ j, j < 16 → a_lineState j = 0) : fi_R 0 V 0 0 0 0 0 0 0 a_now a_first a_least a_greatest a_gap a_some a_someCount a_lineState a_lineP a_lineQ a_lineR a_away := by
  refine ⟨by omega, nI_0.symm, fun i x hi => absurd hi (Nat.not_lt_zero i), ⟨fun x hx => ?_, fun x y hx hy hn => ?_⟩, fun j hj => ?_⟩
  · refine ⟨fun h => absurd h (Nat.lt_irrefl 0), 0, (hC x hx).trans nI_0.symm, rfl, fun _ => ⟨fun j h => by omega, fun i h => absurd h (Nat.not_lt_zero i), fun j h => by omega⟩⟩
  · exact ⟨b_0 _, b_0 _, b_0 _, b_0 _, b_0 _, fun h => absurd h (Nat.lt_irrefl 0), Or.inl ⟨rfl, hT _ (by omega)⟩⟩
  · unfold fi_S
    exact BitVec.getLsbD_zero
theorem fi_c57 {post : SX → Prop} (hp : ∀ T : Nat → Int32, (∀ j, j < 16 → T j = 0) → post (f_count, f_notLess, f_greater, f_unlike, f_alike, f_awayBroken, f_sumBroken, a_now, a_first, a_least, a_greatest, a_gap, a_some, a_someCount, T, a_lineP, a_lineQ, a_lineR, a_away)) : ∀ (d i : Nat) (T : Nat → Int32), i + d = 16 → (∀ j, j < i → T j = 0) → wX_clear_57 post f_count f_notLess f_greater f_unlike f_alike f_awayBroken f_sumBroken (d + 1) (nI i) a_now a_first a_least a_greatest a_gap a_some a_someCount T a_lineP a_lineQ a_lineR a_away := by
  intro d
  induction d with
  | zero =>
    intro i T hi h
    have e : i = 16 := by omega
    subst e
    exact br_t (nI_le (a := 16) (b := 16) (Nat.le_refl 16) (by omega)) (hp T h)
  | succ d ih =>
    intro i T hi h
    refine br_f (nI_ge (a := i) (b := 16) (by omega) (by omega)) ⟨vp_in_nI (by omega) (by omega), ?_⟩
    rw [nI_clamp (show i < 2 ^ 31 by omega), fi_nb0]
    refine nm_e (nm_r (nI_1 i) (ih (i + 1) _ (by omega) (fun j hj => ?_)))
    by_cases e : j = i
    · rw [e]; exact pk_us
    · rw [pk_un e]; exact h j (by omega)
theorem fi_c37 {post : SX → Prop} (hp : ∀ C : Nat → Int32, (∀ j, j < 4 → C j = 0) → ∃ m, wX_clear_57 post f_count f_notLess f_greater f_unlike f_alike f_awayBroken f_sumBroken m 0 a_now a_first a_least a_greatest a_gap a_some C a_lineState a_lineP a_lineQ a_lineR a_away) : ∀ (d i : Nat) (C : Nat → Int32), i + d = 4 → (∀ j, j < i → C j = 0) → wX_clear_37 post f_count f_notLess f_greater f_unlike f_alike f_awayBroken f_sumBroken (d + 1) (nI i) a_now a_first a_least a_greatest a_gap a_some C a_lineState a_lineP a_lineQ a_lineR a_away := by
  intro d
  induction d with
  | zero =>
    intro i C hi h
    have e : i = 4 := by omega
    subst e
    exact br_t (nI_le (a := 4) (b := 4) (Nat.le_refl 4) (by omega)) (hp C h)
  | succ d ih =>
    intro i C hi h
    refine br_f (nI_ge (a := i) (b := 4) (by omega) (by omega)) ⟨vp_in_nI (by omega) (by omega), ?_⟩
    rw [nI_clamp (show i < 2 ^ 31 by omega), fi_nb0]
    refine nm_e (nm_r (nI_1 i) (ih (i + 1) _ (by omega) (fun j hj => ?_)))
    by_cases e : j = i
    · rw [e]; exact pk_us
    · rw [pk_un e]; exact h j (by omega)
theorem fi_clearX {post : SX → Prop} (hp : ∀ C T : Nat → Int32, (∀ j, j < 4 → C j = 0) → (∀ j, j < 16 → T j = 0) → post (0, 0, 0, 0, 0, 0, 0, a_now, a_first, a_least, a_greatest, a_gap, a_some, C, T, a_lineP, a_lineQ, a_lineR, a_away)) : wpX_clear post (f_count, f_notLess, f_greater, f_unlike, f_alike, f_awayBroken, f_sumBroken, a_now, a_first, a_least, a_greatest, a_gap, a_some, a_someCount, a_lineState, a_lineP, a_lineQ, a_lineR, a_away) := by
  unfold wpX_clear
  exact ⟨5, fi_c37 (fun C hC => ⟨17, fi_c57 (fun T hT => hp C T hC hT) 16 0 a_lineState (by omega) (fun j hj => absurd hj (Nat.not_lt_zero j))⟩) 4 0 a_someCount (by omega) (fun j hj => absurd hj (Nat.not_lt_zero j))⟩
end
theorem i_vc0 : wpX_init (fun u => wpY_init (fun v => i_Rel 0 u v)) := ⟨0, nI_0.symm, fi_R0 (fun _ _ => rfl) (fun _ _ => rfl)⟩
theorem i_vc_clear {k : Nat} {u : SX} {v : SY} (I : i_Rel k u v) (hk : k + 5 ≤ 2560) : wpX_clear (fun u' => wpY_clear (fun v' => i_Rel (k + 5) u' v') v) u := by
  obtain ⟨f_count, f_notLess, f_greater, f_unlike, f_alike, f_awayBroken, f_sumBroken, a_now, a_first, a_least, a_greatest, a_gap, a_some, a_someCount, a_lineState, a_lineP, a_lineQ, a_lineR, a_away⟩ := u
  obtain ⟨f_size, f_p, f_q, f_r, a_values, a_few⟩ := v
  exact fi_clearX (fun C T hC hT => ⟨0, nI_0.symm, fi_R0 hC hT⟩)
theorem i_vc_samples {k : Nat} {u : SX} {v : SY} (I : i_Rel k u v) (hk : k + 5 ≤ 2560) : wpX_samples (fun r => wpY_samples (fun r' => r' = r ∧ i_Rel (k + 5) u v) v) u := by
  obtain ⟨f_count, f_notLess, f_greater, f_unlike, f_alike, f_awayBroken, f_sumBroken, a_now, a_first, a_least, a_greatest, a_gap, a_some, a_someCount, a_lineState, a_lineP, a_lineQ, a_lineR, a_away⟩ := u
  obtain ⟨f_size, f_p, f_q, f_r, a_values, a_few⟩ := v
  obtain ⟨n, hs, H⟩ := I
  exact ⟨hs.trans H.2.1.symm, n, hs, H⟩
end
section
/-! ===== guards ===== -/
theorem fi_var (v : Int32) : (∃ x, x < 4 ∧ v = nI x) ∨ (v < 0 ∨ (4 : Int32) ≤ v) := by
  rcases pk_ix v (n := 4) (by omega) with h | h | h
  · exact Or.inr (Or.inl h)
  · exact Or.inr (Or.inr h)
  · exact Or.inl h
theorem fi_isVar_ok {post : Int32 → Prop} {x : Nat} (hx : x < 4) (hp : post 1) : wpX_isVariable post (nI x) :=
  br_f (nI_pos (by omega)) (br_f (nI_ge (a := x) (b := 4) hx (by omega)) hp)
theorem fi_isVar_no {post : Int32 → Prop} {v : Int32} (h : v < 0 ∨ (4 : Int32) ≤ v) (hp : post 0) : wpX_isVariable post v :=
  br_c (fun _ => hp) (fun a => br_t (h.resolve_left a) hp)
def fi_pair (a b : Int32) : Prop := ∃ x y, x < 4 ∧ y < 4 ∧ x ≠ y ∧ a = nI x ∧ b = nI y
theorem fi_nne {x y : Nat} (hx : x < 4) (hy : y < 4) (h : x ≠ y) : ¬ nI x = nI y := fun z => h ((nI_eq (by omega) (by omega)).mp z)
theorem fi_isPair_ok {post : Int32 → Prop} {x y : Nat} (hx : x < 4) (hy : y < 4) (h : x ≠ y) (hp : post 1) : wpX_isPair post (nI x) (nI y) := by
  unfold wpX_isPair
  exact fi_isVar_ok hx (br_f fi_n10 (fi_isVar_ok hy (br_f fi_n10 (br_f (fi_nne hx hy h) hp))))
theorem fi_isPair_no {post : Int32 → Prop} {a b : Int32} (h : ¬ fi_pair a b) (hp : post 0) : wpX_isPair post a b := by
  unfold wpX_isPair
  rcases fi_var a with ⟨x, hx, ex⟩ | ha
  · subst ex
    refine fi_isVar_ok hx (br_f fi_n10 ?_)
    rcases fi_var b with ⟨y, hy, ey⟩ | hb
    · subst ey
      exact fi_isVar_ok hy (br_f fi_n10 (br_c (fun _ => hp) (fun z => absurd ⟨x, y, hx, hy, fun e => z (congrArg nI e), rfl, rfl⟩ h)))
    · exact fi_isVar_no hb (br_t rfl hp)
  · exact fi_isVar_no ha (br_t rfl hp)
/-! ===== one bit read ===== -/
theorem fi_b1 : ∀ i, i < 32 → bt 1 i = decide (i = 0) := by decide +kernel
theorem fi_bit {z : Int32} {c : Nat} (hc : c < 32) : ((z >>> (nI c &&& 31)) &&& 1) = 0 ↔ bt z c = false := by
  constructor
  · intro h
    have e := congrArg (fun q => bt q 0) h
    rw [b_and, b_sshr c hc z (by omega), if_pos (by omega), b_0, fi_b1 0 (by omega), Nat.add_zero] at e
    simpa using e
  · intro h
    apply b_ext
    intro i hi
    rw [b_and, b_0, fi_b1 i hi]
    by_cases e : i = 0
    · subst e
      rw [b_sshr c hc z (by omega), if_pos (by omega), Nat.add_zero, h]
      rfl
    · rw [decide_eq_false e, Bool.and_false]
def fi_01 (b : Bool) : Int32 := if b = true then 1 else 0
theorem fi_01_t {b : Bool} (h : b = true) : fi_01 b = 1 := if_pos h
theorem fi_01_f {b : Bool} (h : b = false) : fi_01 b = 0 := if_neg (by rw [h]; decide)
theorem fi_01_0 {b : Bool} (h : fi_01 b = 0) : b = false := by
  cases b
  · rfl
  · exact absurd h (by decide)
theorem fi_01_1 {b : Bool} (h : ¬ fi_01 b = 0) : b = true := by
  cases b
  · exact absurd rfl h
  · rfl
theorem fi_01_n (b : Bool) : narrow .boolean (.int (fi_01 b)) = .int (fi_01 b) := by
  cases b
  · exact narrow_b0
  · exact narrow_b1
theorem fi_al_no {p : Nat → Bool} {i n : Nat} (h : fi_al p i = false) (hi : i ≤ n) : fi_al p n = false := by
  by_cases e : fi_al p n = true
  · have q : fi_al p i = true := fi_al_iff.mpr (fun j hj => fi_al_iff.mp e j (by omega))
    rw [q] at h
    exact absurd h (by decide)
  · exact ts_nt e
theorem fi_al_01 {p : Nat → Bool} {i : Nat} (h : fi_al p i = false) : fi_01 (fi_al p (i + 1)) = 0 := fi_01_f (fi_al_no h (by omega))
theorem fi_al_11 {p : Nat → Bool} {i : Nat} (h : fi_al p i = true) (hp : p i = true) : fi_01 (fi_al p (i + 1)) = 1 := fi_01_t (by rw [fi_al_s, h, hp]; rfl)
theorem fi_al_10 {p : Nat → Bool} {i : Nat} (hp : p i = false) : fi_01 (fi_al p (i + 1)) = 0 := fi_01_f (by rw [fi_al_s, hp, Bool.and_false])
theorem fi_col0 (V : Nat → Int32) (x : Nat) : fi_col V x 0 = V x := by
  show V (4 * 0 + x) = V x
  rw [Nat.mul_zero, Nat.zero_add]
/-! ===== the reference's guards and loops ===== -/
section
variable {f_size : Int32} {f_p : Int32} {f_q : Int32} {f_r : Int32} {a_values : (Nat → Int32)} {a_few : (Nat → Int32)}
theorem fi_is_ok {post : Int32 → Prop} {x : Nat} (hx : x < 4) (hp : post 1) : wpY_is post (f_size, f_p, f_q, f_r, a_values, a_few) (nI x) :=
  br_f (nI_pos (by omega)) (br_f (nI_nlt (a := 3) (b := x) (by omega) (by omega)) hp)
theorem fi_is_no {post : Int32 → Prop} {v : Int32} (h : v < 0 ∨ (4 : Int32) ≤ v) (hp : post 0) : wpY_is post (f_size, f_p, f_q, f_r, a_values, a_few) v :=
  br_c (fun _ => hp) (fun a => br_t (Int32.lt_of_lt_of_le (by decide) (h.resolve_left a)) hp)
theorem fi_Yp_ok {Z K : Prop} {x y : Nat} (hx : x < 4) (hy : y < 4) (h : x ≠ y) (hk : K) : wpY_is (fun r_1 => ((r_1 = 0 → Z) ∧ (¬ r_1 = 0 → wpY_is (fun r_9 => ((r_9 = 0 → Z) ∧ (¬ r_9 = 0 → ((nI x = nI y → Z) ∧ (¬ nI x = nI y → K))))) (f_size, f_p, f_q, f_r, a_values, a_few) (nI y)))) (f_size, f_p, f_q, f_r, a_values, a_few) (nI x) :=
  fi_is_ok hx (br_f fi_n10 (fi_is_ok hy (br_f fi_n10 (br_f (fi_nne hx hy h) hk))))
theorem fi_Yp_no {Z K : Prop} {a b : Int32} (h : ¬ fi_pair a b) (hz : Z) : wpY_is (fun r_1 => ((r_1 = 0 → Z) ∧ (¬ r_1 = 0 → wpY_is (fun r_9 => ((r_9 = 0 → Z) ∧ (¬ r_9 = 0 → ((a = b → Z) ∧ (¬ a = b → K))))) (f_size, f_p, f_q, f_r, a_values, a_few) b))) (f_size, f_p, f_q, f_r, a_values, a_few) a := by
  rcases fi_var a with ⟨x, hx, ex⟩ | ha
  · subst ex
    refine fi_is_ok hx (br_f fi_n10 ?_)
    rcases fi_var b with ⟨y, hy, ey⟩ | hb
    · subst ey
      exact fi_is_ok hy (br_f fi_n10 (br_c (fun _ => hz) (fun z => absurd ⟨x, y, hx, hy, fun e => z (congrArg nI e), rfl, rfl⟩ h)))
    · exact fi_is_no hb (br_t rfl hz)
  · exact fi_is_no ha (br_t rfl hz)
theorem fi_b38_0 {post : Int32 → Prop} {n x : Nat} (hn : n ≤ 100) (hx : x < 4) (hs : f_size = nI n) (hp : post (fi_mn (fi_col a_values x) n)) : ∀ d i, i + d = n → wY_bound_38 post (nI x) 0 f_size f_p f_q f_r a_values a_few (d + 1) (fi_mn (fi_col a_values x) i) (nI i) := by
  subst hs
  intro d
  induction d with
  | zero =>
    intro i hi
    have e : i = n := by omega
    subst e
    exact br_t (nI_le (Nat.le_refl i) (by omega)) hp
  | succ d ih =>
    intro i hi
    refine br_f (nI_ge (a := i) (b := n) (by omega) (by omega)) ?_
    rw [fi_cell, nI_clamp (show 4 * i + x < 2 ^ 31 by omega)]
    refine ⟨vp_in_nI (by omega) (by omega), nm_r (e' := fi_col a_values x i) rfl (br_t rfl (br_c (fun h => nm_r (nI_1 i) ?_) (fun h => nm_r (nI_1 i) ?_)))⟩
    · rw [← fi_mn_t h]; exact ih (i + 1) (by omega)
    · rw [← fi_mn_f h]; exact ih (i + 1) (by omega)
theorem fi_b38_1 {post : Int32 → Prop} {n x : Nat} (hn : n ≤ 100) (hx : x < 4) (hs : f_size = nI n) (hp : post (fi_mx (fi_col a_values x) n)) : ∀ d i, i + d = n → wY_bound_38 post (nI x) 1 f_size f_p f_q f_r a_values a_few (d + 1) (fi_mx (fi_col a_values x) i) (nI i) := by
  subst hs
  intro d
  induction d with
  | zero =>
    intro i hi
    have e : i = n := by omega
    subst e
    exact br_t (nI_le (Nat.le_refl i) (by omega)) hp
  | succ d ih =>
    intro i hi
    refine br_f (nI_ge (a := i) (b := n) (by omega) (by omega)) ?_
    rw [fi_cell, nI_clamp (show 4 * i + x < 2 ^ 31 by omega)]
    refine ⟨vp_in_nI (by omega) (by omega), nm_r (e' := fi_col a_values x i) rfl (br_f fi_n10 (br_c (fun h => nm_r (nI_1 i) ?_) (fun h => nm_r (nI_1 i) ?_)))⟩
    · rw [← fi_mx_t h]; exact ih (i + 1) (by omega)
    · rw [← fi_mx_f h]; exact ih (i + 1) (by omega)
def fi_hl (rel a b : Int32) : Bool := if rel = 0 then decide (a < b) else if rel = 1 then decide (a ≤ b) else if rel = 2 then decide (a = b) else !decide (a = b)
theorem fi_holds {post : Int32 → Prop} {a b rel : Int32} (hp : post (fi_01 (fi_hl rel a b))) : wpY_holds post (f_size, f_p, f_q, f_r, a_values, a_few) a b rel := by
  unfold fi_hl at hp
  refine br_c (fun h => ?_) (fun h => br_c (fun h' => ?_) (fun h' => br_c (fun h'' => ?_) (fun h'' => ?_)))
  · rw [if_pos h] at hp
    refine br_c (fun z => ?_) (fun z => ?_)
    · rw [fi_01_f (decide_eq_false (Int32.not_lt.mpr z))] at hp; exact hp
    · rw [fi_01_t (decide_eq_true (Int32.not_le.mp z))] at hp; exact hp
  · rw [if_neg h, if_pos h'] at hp
    refine br_c (fun z => ?_) (fun z => ?_)
    · rw [fi_01_f (decide_eq_false (Int32.not_le.mpr z))] at hp; exact hp
    · rw [fi_01_t (decide_eq_true (Int32.not_lt.mp z))] at hp; exact hp
  · rw [if_neg h, if_neg h', if_pos h''] at hp
    refine br_c (fun z => ?_) (fun z => ?_)
    · rw [fi_01_t (decide_eq_true z)] at hp; exact hp
    · rw [fi_01_f (decide_eq_false z)] at hp; exact hp
  · rw [if_neg h, if_neg h', if_neg h''] at hp
    refine br_c (fun z => ?_) (fun z => ?_)
    · rw [fi_01_f (by rw [decide_eq_true z]; rfl)] at hp; exact hp
    · rw [fi_01_t (by rw [decide_eq_false z]; rfl)] at hp; exact hp
theorem fi_r38 {post : Int32 → Prop} {n x y : Nat} {rel : Int32} (hn : n ≤ 100) (hx : x < 4) (hy : y < 4) (hs : f_size = nI n) (hp : post (fi_01 (fi_al (fun i => fi_hl rel (fi_col a_values x i) (fi_col a_values y i)) n))) : ∀ d i, i + d = n → wY_relation_38 post (nI x) (nI y) rel f_size f_p f_q f_r a_values a_few (d + 1) (fi_01 (fi_al (fun i => fi_hl rel (fi_col a_values x i) (fi_col a_values y i)) i)) (nI i) := by
  subst hs
  intro d
  induction d with
  | zero =>
    intro i hi
    have e : i = n := by omega
    subst e
    exact br_t (nI_le (Nat.le_refl i) (by omega)) ⟨fi_01_n _, hp⟩
  | succ d ih =>
    intro i hi
    refine br_f (nI_ge (a := i) (b := n) (by omega) (by omega)) ?_
    rw [fi_cell, fi_cell, nI_clamp (show 4 * i + x < 2 ^ 31 by omega), nI_clamp (show 4 * i + y < 2 ^ 31 by omega)]
    have hr := ih (i + 1) (by omega)
    refine br_c (fun z => nm_r (nI_1 i) ?_) (fun z => ⟨vp_in_nI (by omega) (by omega), vp_in_nI (by omega) (by omega), fi_holds (br_c (fun z' => nm_r (nI_1 i) ?_) (fun z' => nm_r (nI_1 i) ?_))⟩)
    · rw [fi_al_01 (fi_01_0 z)] at hr; exact hr
    · rw [fi_al_10 (fi_01_0 z')] at hr; exact hr
    · rw [fi_al_11 (fi_01_1 z) (fi_01_1 z')] at hr; exact hr
theorem fi_Y_rel {post : Int32 → Prop} {n x y : Nat} {rel : Int32} (hn : n ≤ 100) (hx : x < 4) (hy : y < 4) (h : x ≠ y) (hs : f_size = nI n) (h0 : ¬ rel < 0) (h3 : rel ≤ 3) (hp : post (fi_01 (fi_al (fun i => fi_hl rel (fi_col a_values x i) (fi_col a_values y i)) n))) : wpY_relation post (f_size, f_p, f_q, f_r, a_values, a_few) (nI x) (nI y) rel := by
  unfold wpY_relation
  exact fi_Yp_ok hx hy h (br_f h0 (br_t h3 ⟨n + 1, fi_r38 hn hx hy hs hp n 0 (by omega)⟩))
theorem fi_o52 {post : Int32 → Prop} {n x y : Nat} {c : Int32} (hn : n ≤ 100) (hx : x < 4) (hy : y < 4) (hs : f_size = nI n) (hp : post (if fi_al (fun i => decide (fi_col a_values y i = fi_col a_values x i + c)) n = true then c else -1000)) : ∀ d i, i + d = n → wY_offset_52 post (nI x) (nI y) c f_size f_p f_q f_r a_values a_few (d + 1) (fi_01 (fi_al (fun i => decide (fi_col a_values y i = fi_col a_values x i + c)) i)) (nI i) := by
  subst hs
  intro d
  induction d with
  | zero =>
    intro i hi
    have e : i = n := by omega
    subst e
    refine br_t (nI_le (Nat.le_refl i) (by omega)) (br_c (fun z => ?_) (fun z => ?_))
    · rw [if_neg (by rw [fi_01_0 z]; decide)] at hp; exact hp
    · rw [if_pos (fi_01_1 z)] at hp; exact hp
  | succ d ih =>
    intro i hi
    refine br_f (nI_ge (a := i) (b := n) (by omega) (by omega)) ?_
    rw [fi_cell, fi_cell, nI_clamp (show 4 * i + x < 2 ^ 31 by omega), nI_clamp (show 4 * i + y < 2 ^ 31 by omega)]
    have hr := ih (i + 1) (by omega)
    refine br_c (fun z => nm_r (nI_1 i) ?_) (fun z => ⟨vp_in_nI (by omega) (by omega), vp_in_nI (by omega) (by omega), br_c (fun z' => nm_r (nI_1 i) ?_) (fun z' => nm_r (nI_1 i) ?_)⟩)
    · rw [fi_al_01 (fi_01_0 z)] at hr; exact hr
    · rw [fi_al_11 (fi_01_1 z) (decide_eq_true z')] at hr; exact hr
    · rw [fi_al_10 (decide_eq_false z')] at hr; exact hr
theorem fi_s34 {post : Int32 → Prop} {n x y z : Nat} (hn : n ≤ 100) (hx : x < 4) (hy : y < 4) (hz : z < 4) (hs : f_size = nI n) (hp : post (fi_01 (fi_al (fun i => decide (fi_col a_values x i + fi_col a_values y i = fi_col a_values z i)) n))) : ∀ d i, i + d = n → wY_sums_34 post (nI x) (nI y) (nI z) f_size f_p f_q f_r a_values a_few (d + 1) (fi_01 (fi_al (fun i => decide (fi_col a_values x i + fi_col a_values y i = fi_col a_values z i)) i)) (nI i) := by
  subst hs
  intro d
  induction d with
  | zero =>
    intro i hi
    have e : i = n := by omega
    subst e
    exact br_t (nI_le (Nat.le_refl i) (by omega)) ⟨fi_01_n _, hp⟩
  | succ d ih =>
    intro i hi
    refine br_f (nI_ge (a := i) (b := n) (by omega) (by omega)) ?_
    rw [fi_cell, fi_cell, fi_cell, nI_clamp (show 4 * i + x < 2 ^ 31 by omega), nI_clamp (show 4 * i + y < 2 ^ 31 by omega), nI_clamp (show 4 * i + z < 2 ^ 31 by omega)]
    have hr := ih (i + 1) (by omega)
    refine br_c (fun q => ⟨fi_01_n _, ?_⟩) (fun q => ⟨vp_in_nI (by omega) (by omega), vp_in_nI (by omega) (by omega), vp_in_nI (by omega) (by omega), br_c (fun q' => nm_r (nI_1 i) ?_) (fun q' => nm_r (nI_1 i) ?_)⟩)
    · rw [fi_01_f (fi_al_no (fi_01_0 q) (by omega))] at hp
      rw [q]; exact hp
    · rw [fi_al_11 (fi_01_1 q) (decide_eq_true q')] at hr; exact hr
    · rw [fi_al_10 (decide_eq_false q')] at hr; exact hr
end
end
section
/-! ===== bound, relation, offset, sums, equals ===== -/
theorem fi_0n : ¬ (0 : Int32) < 0 := by decide
theorem fi_1n : ¬ (1 : Int32) < 0 := by decide
theorem fi_01l : (0 : Int32) ≤ 1 := by decide
theorem fi_11l : (1 : Int32) ≤ 1 := by decide
theorem fi_le1 {v : Int32} (h0 : ¬ v < 0) (h1 : v ≤ 1) : v = 0 ∨ v = 1 := by
  obtain ⟨j, hj, e⟩ := nI_of2 (M := 1) (n := 1) (by decide) h0 h1
  have : j = 0 ∨ j = 1 := by omega
  rcases this with h | h <;> subst h
  · exact Or.inl e
  · exact Or.inr e
section
variable {f_count : Int32} {f_notLess : Int32} {f_greater : Int32} {f_unlike : Int32} {f_alike : Int32} {f_awayBroken : Int32} {f_sumBroken : Int64} {a_now : (Nat → Int32)} {a_first : (Nat → Int32)} {a_least : (Nat → Int32)} {a_greatest : (Nat → Int32)} {a_gap : (Nat → Int32)} {a_some : (Nat → Int32)} {a_someCount : (Nat → Int32)} {a_lineState : (Nat → Int32)} {a_lineP : (Nat → Int32)} {a_lineQ : (Nat → Int32)} {a_lineR : (Nat → Int32)} {a_away : (Nat → Int32)}
variable {f_size : Int32} {f_p : Int32} {f_q : Int32} {f_r : Int32} {a_values : (Nat → Int32)} {a_few : (Nat → Int32)}
theorem fi_X_bound_no {post : Int32 → Prop} {a w : Int32} (h : (a < 0 ∨ (4 : Int32) ≤ a) ∨ f_count = 0 ∨ (w ≠ 0 ∧ w ≠ 1)) (hp : post (-1000)) : wpX_bound post (f_count, f_notLess, f_greater, f_unlike, f_alike, f_awayBroken, f_sumBroken, a_now, a_first, a_least, a_greatest, a_gap, a_some, a_someCount, a_lineState, a_lineP, a_lineQ, a_lineR, a_away) a w := by
  unfold wpX_bound
  dsimp only
  rcases fi_var a with ⟨x, hx, ex⟩ | ha
  · subst ex
    refine fi_isVar_ok hx (br_f fi_n10 (br_c (fun _ => hp) (fun z => br_c (fun _ => hp) (fun z0 => br_c (fun z1 => ?_) (fun _ => hp)))))
    rcases h with h | h | h
    · rcases h with h | h
      · exact absurd h (nI_pos (by omega))
      · exact absurd h (nI_ge (a := x) (b := 4) hx (by omega))
    · exact absurd h z
    · rcases fi_le1 z0 z1 with e | e
      · exact absurd e h.1
      · exact absurd e h.2
  · exact fi_isVar_no ha (br_t rfl hp)
theorem fi_Y_bound_no {post : Int32 → Prop} {a w : Int32} (h : (a < 0 ∨ (4 : Int32) ≤ a) ∨ f_size = 0 ∨ (w ≠ 0 ∧ w ≠ 1)) (hp : post (-1000)) : wpY_bound post (f_size, f_p, f_q, f_r, a_values, a_few) a w := by
  unfold wpY_bound
  dsimp only
  rcases fi_var a with ⟨x, hx, ex⟩ | ha
  · subst ex
    refine fi_is_ok hx (br_f fi_n10 ?_)
    rcases h with h | h | h
    · rcases h with h | h
      · exact absurd h (nI_pos (by omega))
      · exact absurd h (nI_ge (a := x) (b := 4) hx (by omega))
    · exact br_t h hp
    · exact br_c (fun _ => hp) (fun _ => br_f h.1 (br_f h.2 hp))
  · exact fi_is_no ha (br_t rfl hp)
theorem fi_X_bound_ok {post : Int32 → Prop} {x : Nat} {w : Int32} (hx : x < 4) (hc : ¬ f_count = 0) (hw : w = 0 ∨ w = 1) (hp : post (if w = 0 then a_least x else a_greatest x)) : wpX_bound post (f_count, f_notLess, f_greater, f_unlike, f_alike, f_awayBroken, f_sumBroken, a_now, a_first, a_least, a_greatest, a_gap, a_some, a_someCount, a_lineState, a_lineP, a_lineQ, a_lineR, a_away) (nI x) w := by
  unfold wpX_bound
  dsimp only
  rw [nI_clamp (show x < 2 ^ 31 by omega)]
  have hin : vp_in (nI x) 4 := vp_in_nI hx (by omega)
  refine fi_isVar_ok hx (br_f fi_n10 (br_f hc ?_))
  rcases hw with h | h <;> subst h
  · exact br_f fi_0n (br_t fi_01l (br_t rfl ⟨hin, hp⟩))
  · exact br_f fi_1n (br_t fi_11l (br_f fi_n10 ⟨hin, hp⟩))
theorem fi_Y_bound_ok {post : Int32 → Prop} {x n : Nat} {w : Int32} (hx : x < 4) (hn : n ≤ 100) (h0 : 0 < n) (hs : f_size = nI n) (hw : w = 0 ∨ w = 1) (hp : post (if w = 0 then fi_mn (fi_col a_values x) n else fi_mx (fi_col a_values x) n)) : wpY_bound post (f_size, f_p, f_q, f_r, a_values, a_few) (nI x) w := by
  unfold wpY_bound
  dsimp only
  rw [nI_clamp (show x < 2 ^ 31 by omega)]
  have hin : vp_in (nI x) 400 := vp_in_nI (by omega) (by omega)
  refine fi_is_ok hx (br_f fi_n10 (br_f (by rw [hs]; exact nI_ne0 h0 (by omega)) ?_))
  rcases hw with h | h <;> subst h
  · exact br_t rfl ⟨hin, nm_r (e' := fi_mn (fi_col a_values x) 0) (fi_col0 a_values x).symm ⟨n + 1, fi_b38_0 hn hx hs hp n 0 (by omega)⟩⟩
  · exact br_f fi_n10 (br_t rfl ⟨hin, nm_r (e' := fi_mx (fi_col a_values x) 0) (fi_col0 a_values x).symm ⟨n + 1, fi_b38_1 hn hx hs hp n 0 (by omega)⟩⟩)
theorem fi_x58 {post : Int32 → Prop} {x y : Nat} {z : Int32} {b : Bool} (hx : x < 4) (hy : y < 4) (hb : bt z (4 * x + y) = !b) (hp : post (fi_01 b)) : wX_relation_58 post (nI x) (nI y) z f_count f_notLess f_greater f_unlike f_alike f_awayBroken f_sumBroken a_now a_first a_least a_greatest a_gap a_some a_someCount a_lineState a_lineP a_lineQ a_lineR a_away := by
  unfold wX_relation_58
  rw [fi_cell]
  refine br_c (fun h => ?_) (fun h => ?_)
  · rw [fi_bit (by omega), hb] at h
    rw [fi_01_t (by cases b <;> first | rfl | exact absurd h (by decide))] at hp
    exact hp
  · rw [fi_bit (by omega), hb] at h
    rw [fi_01_f (by cases b <;> first | rfl | exact absurd rfl h)] at hp
    exact hp
end
theorem i_vc_bound {k : Nat} {u : SX} {v : SY} (I : i_Rel k u v) (hk : k + 5 ≤ 2560) (v1 : Int32) (v2 : Int32) : wpX_bound (fun r => wpY_bound (fun r' => r' = r ∧ i_Rel (k + 5) u v) v v1 v2) u v1 v2 := by
  obtain ⟨f_count, f_notLess, f_greater, f_unlike, f_alike, f_awayBroken, f_sumBroken, a_now, a_first, a_least, a_greatest, a_gap, a_some, a_someCount, a_lineState, a_lineP, a_lineQ, a_lineR, a_away⟩ := u
  obtain ⟨f_size, f_p, f_q, f_r, a_values, a_few⟩ := v
  have I' := I
  obtain ⟨n, hs, H⟩ := I'
  obtain ⟨hn, hc, hV, hW, hS⟩ := H
  by_cases hw : v2 = 0 ∨ v2 = 1
  · rcases fi_var v1 with ⟨x, hx, ex⟩ | hb
    · subst ex
      by_cases h0 : n = 0
      · subst h0
        exact fi_X_bound_no (Or.inr (Or.inl (hc.trans nI_0))) (fi_Y_bound_no (Or.inr (Or.inl (hs.trans nI_0))) ⟨rfl, I⟩)
      · obtain ⟨_, e2, e3, _⟩ := (hW.1 x hx).1 (show 0 < n by omega)
        refine fi_X_bound_ok hx (by rw [hc]; exact nI_ne0 (by omega) (by omega)) hw (fi_Y_bound_ok hx hn (by omega) hs hw ⟨?_, I⟩)
        rw [e2, e3]
    · exact fi_X_bound_no (Or.inl hb) (fi_Y_bound_no (Or.inl hb) ⟨rfl, I⟩)
  · have hw' : v2 ≠ 0 ∧ v2 ≠ 1 := ⟨fun z => hw (Or.inl z), fun z => hw (Or.inr z)⟩
    exact fi_X_bound_no (Or.inr (Or.inr hw')) (fi_Y_bound_no (Or.inr (Or.inr hw')) ⟨rfl, I⟩)
theorem i_vc_relation {k : Nat} {u : SX} {v : SY} (I : i_Rel k u v) (hk : k + 5 ≤ 2560) (v1 : Int32) (v2 : Int32) (v3 : Int32) : wpX_relation (fun r => wpY_relation (fun r' => r' = r ∧ i_Rel (k + 5) u v) v v1 v2 v3) u v1 v2 v3 := by
  obtain ⟨f_count, f_notLess, f_greater, f_unlike, f_alike, f_awayBroken, f_sumBroken, a_now, a_first, a_least, a_greatest, a_gap, a_some, a_someCount, a_lineState, a_lineP, a_lineQ, a_lineR, a_away⟩ := u
  obtain ⟨f_size, f_p, f_q, f_r, a_values, a_few⟩ := v
  have I' := I
  obtain ⟨n, hs, H⟩ := I'
  obtain ⟨hn, hc, hV, hW, hS⟩ := H
  unfold wpX_relation
  dsimp only
  by_cases hp : fi_pair v1 v2
  · obtain ⟨x, y, hx, hy, hxy, ex, ey⟩ := hp
    subst ex
    subst ey
    refine fi_isPair_ok hx hy hxy (br_f fi_n10 ?_)
    by_cases h0 : v3 < 0
    · refine br_t h0 ?_
      unfold wpY_relation
      exact fi_Yp_ok hx hy hxy (br_t h0 ⟨rfl, I⟩)
    · refine br_f h0 ?_
      by_cases h3 : v3 ≤ 3
      · obtain ⟨p1, p2, p3, p4, _⟩ := hW.2 x y hx hy hxy
        have hY : ∀ b : Bool, b = fi_al (fun i => fi_hl v3 (fi_col a_values x i) (fi_col a_values y i)) n → wpY_relation (fun r' => r' = fi_01 b ∧ i_Rel (k + 5) (f_count, f_notLess, f_greater, f_unlike, f_alike, f_awayBroken, f_sumBroken, a_now, a_first, a_least, a_greatest, a_gap, a_some, a_someCount, a_lineState, a_lineP, a_lineQ, a_lineR, a_away) (f_size, f_p, f_q, f_r, a_values, a_few)) (f_size, f_p, f_q, f_r, a_values, a_few) (nI x) (nI y) v3 := fun b hb => fi_Y_rel hn hx hy hxy hs h0 h3 ⟨by rw [hb], I⟩
        refine br_t h3 (br_c (fun z => fi_x58 hx hy p1 (hY _ ?_)) (fun z => br_c (fun z' => fi_x58 hx hy p2 (hY _ ?_)) (fun z' => br_c (fun z'' => fi_x58 hx hy p3 (hY _ ?_)) (fun z'' => fi_x58 hx hy p4 (hY _ ?_)))))
        · exact fi_al_congr (fun i _ => by unfold fi_hl; rw [if_pos z])
        · exact fi_al_congr (fun i _ => by unfold fi_hl; rw [if_neg z, if_pos z'])
        · exact fi_al_congr (fun i _ => by unfold fi_hl; rw [if_neg z, if_neg z', if_pos z''])
        · exact fi_al_congr (fun i _ => by unfold fi_hl; rw [if_neg z, if_neg z', if_neg z''])
      · refine br_f h3 ?_
        unfold wpY_relation
        exact fi_Yp_ok hx hy hxy (br_f h0 (br_f h3 ⟨rfl, I⟩))
  · refine fi_isPair_no hp (br_t rfl ?_)
    unfold wpY_relation
    exact fi_Yp_no hp ⟨rfl, I⟩
theorem i_vc_offset {k : Nat} {u : SX} {v : SY} (I : i_Rel k u v) (hk : k + 5 ≤ 2560) (v1 : Int32) (v2 : Int32) : wpX_offset (fun r => wpY_offset (fun r' => r' = r ∧ i_Rel (k + 5) u v) v v1 v2) u v1 v2 := by
  obtain ⟨f_count, f_notLess, f_greater, f_unlike, f_alike, f_awayBroken, f_sumBroken, a_now, a_first, a_least, a_greatest, a_gap, a_some, a_someCount, a_lineState, a_lineP, a_lineQ, a_lineR, a_away⟩ := u
  obtain ⟨f_size, f_p, f_q, f_r, a_values, a_few⟩ := v
  have I' := I
  obtain ⟨n, hs, H⟩ := I'
  obtain ⟨hn, hc, hV, hW, hS⟩ := H
  unfold wpX_offset
  dsimp only
  by_cases hp : fi_pair v1 v2
  · obtain ⟨x, y, hx, hy, hxy, ex, ey⟩ := hp
    subst ex
    subst ey
    refine fi_isPair_ok hx hy hxy (br_f fi_n10 ?_)
    by_cases h0 : n = 0
    · subst h0
      refine br_t (hc.trans nI_0) ?_
      unfold wpY_offset
      exact fi_Yp_ok hx hy hxy (br_t (hs.trans nI_0) ⟨rfl, I⟩)
    · obtain ⟨_, _, _, _, p5, p6, _⟩ := hW.2 x y hx hy hxy
      have e6 := p6 (show 0 < n by omega)
      rw [fi_col0, fi_col0] at p5 e6
      have hY : ∀ r : Int32, r = (if fi_al (fun i => decide (fi_col a_values y i = fi_col a_values x i + (a_values y - a_values x))) n = true then (a_values y - a_values x) else -1000) → wpY_offset (fun r' => r' = r ∧ i_Rel (k + 5) (f_count, f_notLess, f_greater, f_unlike, f_alike, f_awayBroken, f_sumBroken, a_now, a_first, a_least, a_greatest, a_gap, a_some, a_someCount, a_lineState, a_lineP, a_lineQ, a_lineR, a_away) (f_size, f_p, f_q, f_r, a_values, a_few)) (f_size, f_p, f_q, f_r, a_values, a_few) (nI x) (nI y) := by
        intro r hr
        unfold wpY_offset
        dsimp only
        rw [nI_clamp (show x < 2 ^ 31 by omega), nI_clamp (show y < 2 ^ 31 by omega)]
        exact fi_Yp_ok hx hy hxy (br_f (by rw [hs]; exact nI_ne0 (by omega) (by omega)) ⟨vp_in_nI (by omega) (by omega), vp_in_nI (by omega) (by omega), nm_e ⟨n + 1, fi_o52 hn hx hy hs ⟨hr.symm, I⟩ n 0 (by omega)⟩⟩)
      refine br_f (by rw [hc]; exact nI_ne0 (by omega) (by omega)) (nm_r (fi_cell x y) (br_c (fun z => ⟨vp_in_nI (by omega) (by omega), hY _ ?_⟩) (fun z => hY _ ?_)))
      · rw [nI_clamp (show 4 * x + y < 2 ^ 31 by omega), e6]
        rw [fi_bit (by omega), p5] at z
        rw [if_pos (by simpa using z)]
      · rw [fi_bit (by omega), p5] at z
        rw [if_neg (fun q => z (by rw [q]; rfl))]
  · refine fi_isPair_no hp (br_t rfl ?_)
    unfold wpY_offset
    exact fi_Yp_no hp ⟨rfl, I⟩
theorem fi_sumcell (x y z : Nat) : 16 * nI x + 4 * nI y + nI z = nI (16 * x + 4 * y + z) := by
  show nI 16 * nI x + nI 4 * nI y + nI z = _
  rw [pk_mul, pk_mul, nI_add, nI_add]
theorem i_vc_sums {k : Nat} {u : SX} {v : SY} (I : i_Rel k u v) (hk : k + 5 ≤ 2560) (v1 : Int32) (v2 : Int32) (v3 : Int32) : wpX_sums (fun r => wpY_sums (fun r' => r' = r ∧ i_Rel (k + 5) u v) v v1 v2 v3) u v1 v2 v3 := by
  obtain ⟨f_count, f_notLess, f_greater, f_unlike, f_alike, f_awayBroken, f_sumBroken, a_now, a_first, a_least, a_greatest, a_gap, a_some, a_someCount, a_lineState, a_lineP, a_lineQ, a_lineR, a_away⟩ := u
  obtain ⟨f_size, f_p, f_q, f_r, a_values, a_few⟩ := v
  have I' := I
  obtain ⟨n, hs, H⟩ := I'
  obtain ⟨hn, hc, hV, hW, hS⟩ := H
  unfold wpX_sums
  dsimp only
  have hbad : ∀ a b c : Int32, wY_sums_34 (fun r' => r' = 0 ∧ i_Rel (k + 5) (f_count, f_notLess, f_greater, f_unlike, f_alike, f_awayBroken, f_sumBroken, a_now, a_first, a_least, a_greatest, a_gap, a_some, a_someCount, a_lineState, a_lineP, a_lineQ, a_lineR, a_away) (f_size, f_p, f_q, f_r, a_values, a_few)) a b c f_size f_p f_q f_r a_values a_few 1 0 0 := fun a b c => br_c (fun _ => ⟨narrow_b0, rfl, I⟩) (fun _ => br_t rfl ⟨narrow_b0, rfl, I⟩)
  rcases fi_var v1 with ⟨x, hx, ex⟩ | h1
  · subst ex
    refine fi_isVar_ok hx (br_f fi_n10 ?_)
    rcases fi_var v2 with ⟨y, hy, ey⟩ | h2
    · subst ey
      refine fi_isVar_ok hy (br_f fi_n10 ?_)
      rcases fi_var v3 with ⟨z, hz, ez⟩ | h3
      · subst ez
        refine fi_isVar_ok hz (br_f fi_n10 ?_)
        have hb : f_sumBroken.toBitVec.getLsbD (16 * x + 4 * y + z) = !fi_al (fun i => decide (fi_col a_values x i + fi_col a_values y i = fi_col a_values z i)) n := by
          have q := hS (16 * x + 4 * y + z) (by omega)
          unfold fi_S fi_sm at q
          rw [show (16 * x + 4 * y + z) / 16 = x by omega, show (16 * x + 4 * y + z) / 4 % 4 = y by omega, show (16 * x + 4 * y + z) % 4 = z by omega] at q
          exact q
        have hY : ∀ b : Bool, b = fi_al (fun i => decide (fi_col a_values x i + fi_col a_values y i = fi_col a_values z i)) n → wpY_sums (fun r' => r' = fi_01 b ∧ i_Rel (k + 5) (f_count, f_notLess, f_greater, f_unlike, f_alike, f_awayBroken, f_sumBroken, a_now, a_first, a_least, a_greatest, a_gap, a_some, a_someCount, a_lineState, a_lineP, a_lineQ, a_lineR, a_away) (f_size, f_p, f_q, f_r, a_values, a_few)) (f_size, f_p, f_q, f_r, a_values, a_few) (nI x) (nI y) (nI z) := by
          intro b hb
          unfold wpY_sums
          exact fi_is_ok hx (br_f fi_n10 (fi_is_ok hy (br_f fi_n10 (fi_is_ok hz (br_f fi_n10 ⟨n + 1, fi_s34 hn hx hy hz hs ⟨by rw [hb], I⟩ n 0 (by omega)⟩)))))
        rw [fi_sumcell, wb_cu _ (show 16 * x + 4 * y + z < 64 by omega)]
        have hj : (UInt64.ofNat (16 * x + 4 * y + z)).toNat = 16 * x + 4 * y + z := u_tn (by omega)
        refine br_c (fun h => hY true ?_) (fun h => hY false ?_)
        · rw [ts_bit (by omega) hj, hb] at h
          exact (by simpa using h : fi_al _ n = true).symm
        · rw [ts_bit (by omega) hj, hb] at h
          exact (by simpa using h : fi_al _ n = false).symm
      · refine fi_isVar_no h3 (br_t rfl ?_)
        unfold wpY_sums
        exact fi_is_ok hx (br_f fi_n10 (fi_is_ok hy (br_f fi_n10 (fi_is_no h3 (br_t rfl ⟨1, hbad _ _ _⟩)))))
    · refine fi_isVar_no h2 (br_t rfl ?_)
      unfold wpY_sums
      exact fi_is_ok hx (br_f fi_n10 (fi_is_no h2 (br_t rfl ⟨1, hbad _ _ _⟩)))
  · refine fi_isVar_no h1 (br_t rfl ?_)
    unfold wpY_sums
    exact fi_is_no h1 (br_t rfl ⟨1, hbad _ _ _⟩)
/-! ===== equals ===== -/
def fi_e13 (E : Nat → Bool) (x : Nat) : Nat → Nat → Int32 → Int32
  | 0, _, s => s
  | d + 1, y, s => fi_e13 E x d (y + 1) (if E (4 * x + y) = true then s ||| fi_b (4 * x + y) else s)
def fi_e4 (E : Nat → Bool) : Nat → Nat → Int32 → Int32
  | 0, _, s => s
  | d + 1, x, s => fi_e4 E d (x + 1) (fi_e13 E x (3 - x) (x + 1) s)
theorem fi_b_bt32 : ∀ c, c < 16 → ∀ i, i < 32 → bt (fi_b c) i = decide (i = c) := by decide +kernel
theorem fi_eqbit {s u : Int32} {c : Nat} (hc : c < 16) {b : Bool} (h : bt u c = !b) : s ||| (fi_b c &&& (u ^^^ (-1))) = if b = true then s ||| fi_b c else s := by
  apply b_ext
  intro i hi
  rw [b_or, b_and, b_xor, fi_b_bt32 c hc i hi, b_m1 i hi]
  by_cases e : i = c
  · subst e
    rw [h]
    cases b
    · simp
    · rw [if_pos rfl, b_or, fi_b_bt32 i hc i hi]
      simp
  · rw [decide_eq_false e, Bool.false_and, Bool.or_false]
    cases b
    · rfl
    · rw [if_pos rfl, b_or, fi_b_bt32 c hc i hi, decide_eq_false e, Bool.or_false]
section
variable {f_count : Int32} {f_notLess : Int32} {f_greater : Int32} {f_unlike : Int32} {f_alike : Int32} {f_awayBroken : Int32} {f_sumBroken : Int64} {a_now : (Nat → Int32)} {a_first : (Nat → Int32)} {a_least : (Nat → Int32)} {a_greatest : (Nat → Int32)} {a_gap : (Nat → Int32)} {a_some : (Nat → Int32)} {a_someCount : (Nat → Int32)} {a_lineState : (Nat → Int32)} {a_lineP : (Nat → Int32)} {a_lineQ : (Nat → Int32)} {a_lineR : (Nat → Int32)} {a_away : (Nat → Int32)}
variable {f_size : Int32} {f_p : Int32} {f_q : Int32} {f_r : Int32} {a_values : (Nat → Int32)} {a_few : (Nat → Int32)}
theorem fi_xe13 {post : Int32 → Prop} {J : Int32 → Int32 → Prop} {E : Nat → Bool} {x : Nat} (hx : x < 4) (hE : ∀ y, x < y → y < 4 → bt f_unlike (4 * x + y) = !E (4 * x + y)) : ∀ d y s, x < y → y + d = 4 → J (fi_e13 E x d y s) (nI (x + 1)) → wX_equals_13 post J (nI x) f_count f_notLess f_greater f_unlike f_alike f_awayBroken f_sumBroken a_now a_first a_least a_greatest a_gap a_some a_someCount a_lineState a_lineP a_lineQ a_lineR a_away (d + 1) s (nI y) := by
  intro d
  induction d with
  | zero =>
    intro y s hxy hy hJ
    have e : y = 4 := by omega
    subst e
    exact br_t (nI_le (a := 4) (b := 4) (Nat.le_refl 4) (by omega)) (nm_r (nI_1 x) hJ)
  | succ d ih =>
    intro y s hxy hy hJ
    refine br_f (nI_ge (a := y) (b := 4) (by omega) (by omega)) ?_
    rw [fi_cell]
    exact nm_r (e' := fi_b (4 * x + y)) rfl (nm_r (fi_eqbit (by omega) (hE y hxy (by omega))) (nm_r (nI_1 y) (ih (y + 1) _ (by omega) (by omega) hJ)))
theorem fi_xe4 {post : Int32 → Prop} {E : Nat → Bool} (hE : ∀ x y, x < y → y < 4 → bt f_unlike (4 * x + y) = !E (4 * x + y)) : ∀ d x s, x + d = 4 → post (fi_e4 E d x s) → wX_equals_4 post f_count f_notLess f_greater f_unlike f_alike f_awayBroken f_sumBroken a_now a_first a_least a_greatest a_gap a_some a_someCount a_lineState a_lineP a_lineQ a_lineR a_away (d + 1) s (nI x) := by
  intro d
  induction d with
  | zero =>
    intro x s hx hp
    have e : x = 4 := by omega
    subst e
    exact br_t (nI_le (a := 4) (b := 4) (Nat.le_refl 4) (by omega)) hp
  | succ d ih =>
    intro x s hx hp
    exact br_f (nI_ge (a := x) (b := 4) (by omega) (by omega)) (nm_r (nI_1 x) ⟨3 - x + 1, fi_xe13 (by omega) (fun y a b => hE x y a b) (3 - x) (x + 1) s (by omega) (by omega) (ih (x + 1) _ (by omega) hp)⟩)
theorem fi_ye13 {post : Int32 → Prop} {J : Int32 → Int32 → Prop} {E : Nat → Bool} {n x : Nat} (hx : x < 4) (hn : n ≤ 100) (hs : f_size = nI n) (hE : ∀ y, x < y → y < 4 → E (4 * x + y) = fi_al (fun i => decide (fi_col a_values x i = fi_col a_values y i)) n) : ∀ d y s, x < y → y + d = 4 → J (fi_e13 E x d y s) (nI (x + 1)) → wY_equals_13 post J (nI x) f_size f_p f_q f_r a_values a_few (d + 1) s (nI y) := by
  intro d
  induction d with
  | zero =>
    intro y s hxy hy hJ
    have e : y = 4 := by omega
    subst e
    exact br_t (nI_le (a := 4) (b := 4) (Nat.le_refl 4) (by omega)) (nm_r (nI_1 x) hJ)
  | succ d ih =>
    intro y s hxy hy hJ
    refine br_f (nI_ge (a := y) (b := 4) (by omega) (by omega)) (fi_Y_rel hn hx (by omega) (by omega) hs (by decide) (by decide) ?_)
    have e : fi_al (fun i => fi_hl 2 (fi_col a_values x i) (fi_col a_values y i)) n = E (4 * x + y) := by
      rw [hE y hxy (by omega)]
      exact fi_al_congr (fun i _ => rfl)
    rw [e, fi_cell]
    unfold fi_e13 at hJ
    refine br_c (fun z => nm_r (nI_1 y) (ih (y + 1) _ (by omega) (by omega) ?_)) (fun z => nm_r (e' := s ||| fi_b (4 * x + y)) rfl (nm_r (nI_1 y) (ih (y + 1) _ (by omega) (by omega) ?_)))
    · rw [if_neg (by rw [fi_01_0 z]; decide)] at hJ; exact hJ
    · rw [if_pos (fi_01_1 z)] at hJ; exact hJ
theorem fi_ye4 {post : Int32 → Prop} {E : Nat → Bool} {n : Nat} (hn : n ≤ 100) (hs : f_size = nI n) (hE : ∀ x y, x < y → y < 4 → E (4 * x + y) = fi_al (fun i => decide (fi_col a_values x i = fi_col a_values y i)) n) : ∀ d x s, x + d = 4 → post (fi_e4 E d x s) → wY_equals_4 post f_size f_p f_q f_r a_values a_few (d + 1) s (nI x) := by
  intro d
  induction d with
  | zero =>
    intro x s hx hp
    have e : x = 4 := by omega
    subst e
    exact br_t (nI_le (a := 4) (b := 4) (Nat.le_refl 4) (by omega)) hp
  | succ d ih =>
    intro x s hx hp
    exact br_f (nI_ge (a := x) (b := 4) (by omega) (by omega)) (nm_r (nI_1 x) ⟨3 - x + 1, fi_ye13 (by omega) hn hs (fun y a b => hE x y a b) (3 - x) (x + 1) s (by omega) (by omega) (ih (x + 1) _ (by omega) hp)⟩)
end
def fi_E (V : Nat → Int32) (n c : Nat) : Bool := fi_al (fun i => decide (fi_col V (c / 4) i = fi_col V (c % 4) i)) n
theorem i_vc_equals {k : Nat} {u : SX} {v : SY} (I : i_Rel k u v) (hk : k + 5 ≤ 2560) : wpX_equals (fun r => wpY_equals (fun r' => r' = r ∧ i_Rel (k + 5) u v) v) u := by
  obtain ⟨f_count, f_notLess, f_greater, f_unlike, f_alike, f_awayBroken, f_sumBroken, a_now, a_first, a_least, a_greatest, a_gap, a_some, a_someCount, a_lineState, a_lineP, a_lineQ, a_lineR, a_away⟩ := u
  obtain ⟨f_size, f_p, f_q, f_r, a_values, a_few⟩ := v
  have I' := I
  obtain ⟨n, hs, H⟩ := I'
  obtain ⟨hn, hc, hV, hW, hS⟩ := H
  have hE : ∀ x y, x < y → y < 4 → fi_E a_values n (4 * x + y) = fi_al (fun i => decide (fi_col a_values x i = fi_col a_values y i)) n := by
    intro x y hxy hy
    unfold fi_E
    rw [show (4 * x + y) / 4 = x by omega, show (4 * x + y) % 4 = y by omega]
  have hU : ∀ x y, x < y → y < 4 → bt f_unlike (4 * x + y) = !fi_E a_values n (4 * x + y) := by
    intro x y hxy hy
    obtain ⟨_, _, p3, _⟩ := hW.2 x y (by omega) hy (by omega)
    rw [hE x y hxy hy]
    exact p3
  exact ⟨5, fi_xe4 hU 4 0 0 (by omega) ⟨5, fi_ye4 hn hs hE 4 0 0 (by omega) ⟨rfl, I⟩⟩⟩
end
section
/-! ===== the reference's different ===== -/
def fi_Y (f : Nat → Int32) (i m : Nat) (few : Nat → Int32) : Prop :=
  m = min 4 (fi_nd f i) ∧ (∀ j l, j < l → l < m → few j ≠ few l) ∧ (∀ j, j < m → ∃ t, t < i ∧ f t = few j) ∧ (m < 4 → ∀ t, t < i → ∃ j, j < m ∧ few j = f t)
theorem fi_RV {n : Nat} {V : Nat → Int32} {f_count : Int32} {f_notLess : Int32} {f_greater : Int32} {f_unlike : Int32} {f_alike : Int32} {f_awayBroken : Int32} {f_sumBroken : Int64} {a_now : (Nat → Int32)} {a_first : (Nat → Int32)} {a_least : (Nat → Int32)} {a_greatest : (Nat → Int32)} {a_gap : (Nat → Int32)} {a_some : (Nat → Int32)} {a_someCount : (Nat → Int32)} {a_lineState : (Nat → Int32)} {a_lineP : (Nat → Int32)} {a_lineQ : (Nat → Int32)} {a_lineR : (Nat → Int32)} {a_away : (Nat → Int32)} (H : fi_W V (fun _ => n) (fun _ => n) f_count f_notLess f_greater f_unlike f_alike f_awayBroken f_sumBroken a_now a_first a_least a_greatest a_gap a_some a_someCount a_lineState a_lineP a_lineQ a_lineR a_away) {x : Nat} (hx : x < 4) : fi_V (fi_col V x) n (a_first x) (a_least x) (a_greatest x) (a_gap x) (a_someCount x) (fun j => a_some (x * 4 + j)) := H.1 x hx
theorem fi_RL {n : Nat} {V : Nat → Int32} {f_count : Int32} {f_notLess : Int32} {f_greater : Int32} {f_unlike : Int32} {f_alike : Int32} {f_awayBroken : Int32} {f_sumBroken : Int64} {a_now : (Nat → Int32)} {a_first : (Nat → Int32)} {a_least : (Nat → Int32)} {a_greatest : (Nat → Int32)} {a_gap : (Nat → Int32)} {a_some : (Nat → Int32)} {a_someCount : (Nat → Int32)} {a_lineState : (Nat → Int32)} {a_lineP : (Nat → Int32)} {a_lineQ : (Nat → Int32)} {a_lineR : (Nat → Int32)} {a_away : (Nat → Int32)} (H : fi_W V (fun _ => n) (fun _ => n) f_count f_notLess f_greater f_unlike f_alike f_awayBroken f_sumBroken a_now a_first a_least a_greatest a_gap a_some a_someCount a_lineState a_lineP a_lineQ a_lineR a_away) {x y : Nat} (hx : x < 4) (hy : y < 4) (hxy : x ≠ y) : fi_L (fi_col V x) (fi_col V y) n (a_lineState (4 * x + y)) (a_lineP (4 * x + y)) (a_lineQ (4 * x + y)) (a_lineR (4 * x + y)) := (H.2 x y hx hy hxy).2.2.2.2.2.2
section
variable {f_size : Int32} {f_p : Int32} {f_q : Int32} {f_r : Int32} {a_values : (Nat → Int32)} {a_few : (Nat → Int32)}
theorem fi_y28 {post : Int32 → SY → Prop} {J : Int32 → Int32 → (Nat → Int32) → (Nat → Int32) → Prop} {x m i : Nat} (hx : x < 4) (hm : m ≤ 4) (hi : i < 100) (hK : (∃ j, j < m ∧ a_few j = fi_col a_values x i) → J (nI m) (nI (i + 1)) a_values a_few) (hN4 : (∀ j, j < m → a_few j ≠ fi_col a_values x i) → m = 4 → J (nI m) (nI (i + 1)) a_values a_few) (hN : (∀ j, j < m → a_few j ≠ fi_col a_values x i) → m < 4 → J (nI (m + 1)) (nI (i + 1)) a_values (upd a_few m (fi_col a_values x i))) : ∀ (d k : Nat) (b : Bool), k + d = m → (b = true → ∃ j, j < m ∧ a_few j = fi_col a_values x i) → (b = false → ∀ j, j < k → a_few j ≠ fi_col a_values x i) → wY_different_28 post J (nI x) (nI m) (nI i) f_size f_p f_q f_r a_values a_few (d + 1) (fi_01 b) (nI k) := by
  intro d
  induction d with
  | zero =>
    intro k b hk h1 h0
    have e : k = m := by omega
    subst e
    refine br_t (nI_le (Nat.le_refl k) (by omega)) (br_c (fun z => pk_le 4 k (fun h => nm_r (nI_1 i) (hN4 (h0 (fi_01_0 z)) (by omega))) (fun h => ?_)) (fun z => nm_r (nI_1 i) (hK (h1 (fi_01_1 z)))))
    rw [fi_cell, nI_clamp (show 4 * i + x < 2 ^ 31 by omega), nI_clamp (show k < 2 ^ 31 by omega)]
    exact ⟨vp_in_nI (by omega) (by omega), vp_in_nI h (by omega), nm_e (nm_r (nI_1 k) (nm_r (nI_1 i) (hN (h0 (fi_01_0 z)) h)))⟩
  | succ d ih =>
    intro k b hk h1 h0
    refine br_f (nI_ge (a := k) (b := m) (by omega) (by omega)) (br_c (fun z => ?_) (fun z => nm_r (nI_1 k) (ih (k + 1) true (by omega) (fun _ => h1 (fi_01_1 z)) (fun q => absurd q (by decide)))))
    rw [fi_cell, nI_clamp (show 4 * i + x < 2 ^ 31 by omega), nI_clamp (show k < 2 ^ 31 by omega)]
    refine ⟨vp_in_nI (by omega) (by omega), vp_in_nI (by omega) (by omega), br_c (fun q => nm_r (nI_1 k) (ih (k + 1) true (by omega) (fun _ => ⟨k, by omega, q⟩) (fun q => absurd q (by decide)))) (fun q => nm_r (nI_1 k) (ih (k + 1) false (by omega) (fun q => absurd q (by decide)) (fun _ => lt_s (h0 (fi_01_0 z)) q)))⟩
theorem fi_y14 {post : Int32 → SY → Prop} {n x : Nat} (hx : x < 4) (hn : n ≤ 100) (hs : f_size = nI n) (hp : ∀ few : Nat → Int32, fi_Y (fi_col a_values x) n (min 4 (fi_nd (fi_col a_values x) n)) few → post (nI (min 4 (fi_nd (fi_col a_values x) n))) (f_size, f_p, f_q, f_r, a_values, few)) : ∀ (d i m : Nat) (few : Nat → Int32), i + d = n → fi_Y (fi_col a_values x) i m few → wY_different_14 post (nI x) f_size f_p f_q f_r (d + 1) (nI m) (nI i) a_values few := by
  subst hs
  intro d
  induction d with
  | zero =>
    intro i m few hi hY
    have e : i = n := by omega
    subst e
    have em := hY.1
    subst em
    exact br_t (nI_le (Nat.le_refl i) (by omega)) (hp few hY)
  | succ d ih =>
    intro i m few hi hY
    obtain ⟨h1, h2, h3, h4⟩ := hY
    refine br_f (nI_ge (a := i) (b := n) (by omega) (by omega)) ⟨m + 1, fi_y28 (x := x) (m := m) (i := i) hx (by omega) (by omega) (fun hK => ih (i + 1) m few (by omega) ?_) (fun hN h => ih (i + 1) m few (by omega) ?_) (fun hN h => ih (i + 1) (m + 1) _ (by omega) ?_) m 0 false (by omega) (fun q => absurd q (by decide)) (fun _ j hj => absurd hj (Nat.not_lt_zero j))⟩
    · obtain ⟨j, hj, e⟩ := hK
      obtain ⟨t, ht, et⟩ := h3 j hj
      refine ⟨by rw [fi_nd_old ht (et.trans e)]; exact h1, h2, fun l hl => ?_, fun hm t' ht' => ?_⟩
      · obtain ⟨t, ht, et⟩ := h3 l hl
        exact ⟨t, by omega, et⟩
      · by_cases q : t' = i
        · exact ⟨j, hj, by rw [q]; exact e⟩
        · exact h4 hm t' (by omega)
    · have := fi_nd_mono (fi_col a_values x) i
      refine ⟨by omega, h2, fun l hl => ?_, fun hm => by omega⟩
      obtain ⟨t, ht, et⟩ := h3 l hl
      exact ⟨t, by omega, et⟩
    · have hnew : fi_nd (fi_col a_values x) (i + 1) = fi_nd (fi_col a_values x) i + 1 := fi_nd_new (fun t ht z => by
        obtain ⟨j, hj, ej⟩ := h4 h t ht
        exact hN j hj (ej.trans z))
      refine ⟨by omega, fun j l hjl hl => ?_, fun l hl => ?_, fun hm t' ht' => ?_⟩
      · rw [pk_un (show j ≠ m by omega)]
        by_cases q : l = m
        · rw [q, pk_us]
          exact hN j (by omega)
        · rw [pk_un q]
          exact h2 j l hjl (by omega)
      · by_cases q : l = m
        · exact ⟨i, by omega, by rw [q, pk_us]⟩
        · obtain ⟨t, ht, et⟩ := h3 l (by omega)
          exact ⟨t, by omega, by rw [pk_un q]; exact et⟩
      · by_cases q : t' = i
        · exact ⟨m, by omega, by rw [q, pk_us]⟩
        · obtain ⟨j, hj, ej⟩ := h4 h t' (by omega)
          exact ⟨j, by omega, by rw [pk_un (by omega)]; exact ej⟩
theorem fi_diffY {post : Int32 → SY → Prop} {n x : Nat} (hx : x < 4) (hn : n ≤ 100) (hs : f_size = nI n) (hp : ∀ few : Nat → Int32, fi_Y (fi_col a_values x) n (min 4 (fi_nd (fi_col a_values x) n)) few → post (nI (min 4 (fi_nd (fi_col a_values x) n))) (f_size, f_p, f_q, f_r, a_values, few)) : wpY_different post (f_size, f_p, f_q, f_r, a_values, a_few) (nI x) := by
  unfold wpY_different
  exact fi_is_ok hx (br_f fi_n10 ⟨n + 1, fi_y14 hx hn hs hp n 0 0 a_few (by omega) ⟨rfl, fun j l _ h => absurd h (Nat.not_lt_zero l), fun j h => absurd h (Nat.not_lt_zero j), fun _ t h => absurd h (Nat.not_lt_zero t)⟩⟩)
theorem fi_diffY_no {post : Int32 → SY → Prop} {v : Int32} (h : v < 0 ∨ (4 : Int32) ≤ v) (hp : post (-1) (f_size, f_p, f_q, f_r, a_values, a_few)) : wpY_different post (f_size, f_p, f_q, f_r, a_values, a_few) v := by
  unfold wpY_different
  exact fi_is_no h (br_t rfl hp)
end
theorem i_vc_different {k : Nat} {u : SX} {v : SY} (I : i_Rel k u v) (hk : k + 5 ≤ 2560) (v1 : Int32) : wpX_different (fun r => wpY_different (fun r' v' => r' = r ∧ i_Rel (k + 5) u v') v v1) u v1 := by
  obtain ⟨f_count, f_notLess, f_greater, f_unlike, f_alike, f_awayBroken, f_sumBroken, a_now, a_first, a_least, a_greatest, a_gap, a_some, a_someCount, a_lineState, a_lineP, a_lineQ, a_lineR, a_away⟩ := u
  obtain ⟨f_size, f_p, f_q, f_r, a_values, a_few⟩ := v
  have I' := I
  obtain ⟨n, hs, H⟩ := I'
  obtain ⟨hn, hc, hV, hW, hS⟩ := H
  unfold wpX_different
  dsimp only
  rcases fi_var v1 with ⟨x, hx, ex⟩ | h
  · subst ex
    refine fi_isVar_ok hx (br_f fi_n10 ⟨vp_in_nI hx (by omega), fi_diffY hx hn hs (fun few _ => ⟨?_, I⟩)⟩)
    obtain ⟨c, e1, e2, _⟩ := (fi_RV hW hx).2
    rw [nI_clamp (show x < 2 ^ 31 by omega), e1, e2]
  · exact fi_isVar_no h (br_t rfl (fi_diffY_no h ⟨rfl, I⟩))
theorem i_vc_constant {k : Nat} {u : SX} {v : SY} (I : i_Rel k u v) (hk : k + 5 ≤ 2560) (v1 : Int32) : wpX_constant (fun r => wpY_constant (fun r' v' => r' = r ∧ i_Rel (k + 5) u v') v v1) u v1 := by
  obtain ⟨f_count, f_notLess, f_greater, f_unlike, f_alike, f_awayBroken, f_sumBroken, a_now, a_first, a_least, a_greatest, a_gap, a_some, a_someCount, a_lineState, a_lineP, a_lineQ, a_lineR, a_away⟩ := u
  obtain ⟨f_size, f_p, f_q, f_r, a_values, a_few⟩ := v
  have I' := I
  obtain ⟨n, hs, H⟩ := I'
  obtain ⟨hn, hc, hV, hW, hS⟩ := H
  unfold wpX_constant
  dsimp only
  rcases fi_var v1 with ⟨x, hx, ex⟩ | h
  · subst ex
    have hin : vp_in (nI x) 4 := vp_in_nI hx (by omega)
    have hY : ∀ r : Int32, (fi_nd (fi_col a_values x) n = 1 → a_values x = r) → (fi_nd (fi_col a_values x) n ≠ 1 → -1000 = r) → wpY_constant (fun r' v' => r' = r ∧ i_Rel (k + 5) (f_count, f_notLess, f_greater, f_unlike, f_alike, f_awayBroken, f_sumBroken, a_now, a_first, a_least, a_greatest, a_gap, a_some, a_someCount, a_lineState, a_lineP, a_lineQ, a_lineR, a_away) v') (f_size, f_p, f_q, f_r, a_values, a_few) (nI x) := by
      intro r h1 h2
      unfold wpY_constant
      dsimp only
      rw [nI_clamp (show x < 2 ^ 31 by omega)]
      refine fi_is_ok hx (br_f fi_n10 (fi_diffY hx hn hs (fun few _ => pk_eq (min 4 (fi_nd (fi_col a_values x) n)) 1 (fun h => ⟨vp_in_nI (by omega) (by omega), h1 (by omega), I⟩) (fun h => ⟨h2 (by omega), I⟩))))
    refine fi_isVar_ok hx (br_f fi_n10 ?_)
    by_cases h0 : n = 0
    · subst h0
      exact br_t (hc.trans nI_0) (hY _ (fun z => absurd z (by show ¬ 0 = 1; omega)) (fun _ => rfl))
    · obtain ⟨_, e2, e3, _⟩ := (fi_RV hW hx).1 (show 0 < n by omega)
      refine br_f (by rw [hc]; exact nI_ne0 (by omega) (by omega)) ⟨hin, hin, ?_⟩
      rw [nI_clamp (show x < 2 ^ 31 by omega), e2, e3]
      refine br_c (fun z => ⟨hin, hY _ (fun _ => ?_) (fun q => absurd (fi_nd_one (by omega) (fi_mnmx (by omega) z)) q)⟩) (fun z => hY _ (fun q => absurd ?_ z) (fun _ => rfl))
      · rw [fi_mn_const (fi_mnmx (by omega) z), fi_col0]
      · rw [fi_mn_const (fi_nd_all (by omega)), fi_mx_const (fi_nd_all (by omega))]
  · refine fi_isVar_no h (br_t rfl ?_)
    unfold wpY_constant
    exact fi_is_no h (br_t rfl ⟨rfl, I⟩)
end
section
/-! ===== valueAt: ranks ===== -/
def fi_lc (few : Nat → Int32) (a : Int32) : Nat → Nat
  | 0 => 0
  | j + 1 => if a ≤ few j then fi_lc few a j else fi_lc few a j + 1
def fi_ln (t : Nat → Nat) (a : Nat) : Nat → Nat
  | 0 => 0
  | j + 1 => if a ≤ t j then fi_ln t a j else fi_ln t a j + 1
theorem fi_lc_le (few : Nat → Int32) (a : Int32) : ∀ j, fi_lc few a j ≤ j := by
  intro j
  induction j with
  | zero => exact Nat.le_refl 0
  | succ j ih =>
    unfold fi_lc
    split <;> omega
theorem fi_smono {s : Nat → Int32} {c : Nat} (S1 : ∀ j, j + 1 < c → s j < s (j + 1)) : ∀ d a, a + d + 1 < c → s a < s (a + d + 1) := by
  intro d
  induction d with
  | zero => intro a h; exact S1 a h
  | succ d ih =>
    intro a h
    exact Int32.lt_trans (ih a (by omega)) (S1 (a + d + 1) h)
theorem fi_sle {s : Nat → Int32} {c : Nat} (S1 : ∀ j, j + 1 < c → s j < s (j + 1)) {a b : Nat} (ha : a < c) (hb : b < c) : s a ≤ s b ↔ a ≤ b := by
  constructor
  · intro h
    refine Classical.byContradiction (fun z => ?_)
    have q := fi_smono S1 (a - b - 1) b (by omega)
    rw [show b + (a - b - 1) + 1 = a by omega] at q
    exact Int32.not_le.mpr q h
  · intro h
    by_cases e : a = b
    · rw [e]; exact Int32.le_refl _
    · have q := fi_smono S1 (b - a - 1) a (by omega)
      rw [show a + (b - a - 1) + 1 = b by omega] at q
      exact Int32.le_of_lt q
theorem fi_lcln {few s : Nat → Int32} {c : Nat} {t : Nat → Nat} (S1 : ∀ j, j + 1 < c → s j < s (j + 1)) (ht : ∀ j, j < c → t j < c ∧ s (t j) = few j) {i : Nat} (hi : i < c) : ∀ j, j ≤ c → fi_lc few (few i) j = fi_ln t (t i) j := by
  intro j
  induction j with
  | zero => intro _; rfl
  | succ j ih =>
    intro hj
    have e : few i ≤ few j ↔ t i ≤ t j := by
      rw [← (ht i hi).2, ← (ht j (by omega)).2]
      exact fi_sle S1 (ht i hi).1 (ht j (by omega)).1
    unfold fi_lc fi_ln
    rw [ih (by omega)]
    by_cases h : few i ≤ few j
    · rw [if_pos h, if_pos (e.mp h)]
    · rw [if_neg h, if_neg (fun z => h (e.mpr z))]
theorem fi_ln_t {t : Nat → Nat} {c : Nat} (hc : c ≤ 3) (ht : ∀ j, j < c → t j < c) (hd : ∀ j l, j < l → l < c → t j ≠ t l) : ∀ i, i < c → fi_ln t (t i) c = t i := by
  intro i hi
  have h : c = 1 ∨ c = 2 ∨ c = 3 := by omega
  rcases h with h | h | h
  · subst h
    have hz : i = 0 := by omega
    subst hz
    have := ht 0 (by omega)
    simp only [fi_ln]
    split <;> omega
  · subst h
    have h0 := ht 0 (by omega)
    have h1 := ht 1 (by omega)
    have h01 := hd 0 1 (by omega) (by omega)
    have hz : i = 0 ∨ i = 1 := by omega
    rcases hz with h | h <;> subst h <;> simp only [fi_ln] <;> split <;> split <;> omega
  · subst h
    have h0 := ht 0 (by omega)
    have h1 := ht 1 (by omega)
    have h2 := ht 2 (by omega)
    have h01 := hd 0 1 (by omega) (by omega)
    have h02 := hd 0 2 (by omega) (by omega)
    have h12 := hd 1 2 (by omega) (by omega)
    have hz : i = 0 ∨ i = 1 ∨ i = 2 := by omega
    rcases hz with h | h | h <;> subst h <;> simp only [fi_ln] <;> split <;> split <;> split <;> omega
theorem fi_surj {t : Nat → Nat} {c k : Nat} (hc : c ≤ 3) (hk : k < c) (ht : ∀ j, j < c → t j < c) (hd : ∀ j l, j < l → l < c → t j ≠ t l) : ∃ i, i < c ∧ t i = k := by
  have h : c = 1 ∨ c = 2 ∨ c = 3 := by omega
  rcases h with h | h | h
  · subst h
    have h0 := ht 0 (by omega)
    exact ⟨0, by omega, by omega⟩
  · subst h
    have h0 := ht 0 (by omega)
    have h1 := ht 1 (by omega)
    have h01 := hd 0 1 (by omega) (by omega)
    by_cases e : t 0 = k
    · exact ⟨0, by omega, e⟩
    · exact ⟨1, by omega, by omega⟩
  · subst h
    have h0 := ht 0 (by omega)
    have h1 := ht 1 (by omega)
    have h2 := ht 2 (by omega)
    have h01 := hd 0 1 (by omega) (by omega)
    have h02 := hd 0 2 (by omega) (by omega)
    have h12 := hd 1 2 (by omega) (by omega)
    by_cases e : t 0 = k
    · exact ⟨0, by omega, e⟩
    · by_cases e' : t 1 = k
      · exact ⟨1, by omega, e'⟩
      · exact ⟨2, by omega, by omega⟩
theorem fi_rank {few s : Nat → Int32} {c k : Nat} (hc : c ≤ 3) (hk : k < c) (S1 : ∀ j, j + 1 < c → s j < s (j + 1)) (N : ∀ j l, j < l → l < c → few j ≠ few l) (M : ∀ j, j < c → ∃ t, t < c ∧ s t = few j) : (∀ i, i < c → fi_lc few (few i) c = k → few i = s k) ∧ (∃ i, i < c ∧ fi_lc few (few i) c = k) := by
  have ⟨t, ht⟩ : ∃ t : Nat → Nat, ∀ j, j < c → t j < c ∧ s (t j) = few j := by
    refine ⟨fun j => if h : j < c then (M j h).choose else 0, fun j hj => ?_⟩
    dsimp only
    rw [dif_pos hj]
    exact (M j hj).choose_spec
  have hd : ∀ j l, j < l → l < c → t j ≠ t l := by
    intro j l hjl hl z
    apply N j l hjl hl
    rw [← (ht j (by omega)).2, ← (ht l hl).2, z]
  have hr : ∀ i, i < c → fi_lc few (few i) c = t i := by
    intro i hi
    rw [fi_lcln S1 ht hi c (Nat.le_refl c)]
    exact fi_ln_t hc (fun j hj => (ht j hj).1) hd i hi
  constructor
  · intro i hi h
    rw [hr i hi] at h
    rw [← (ht i hi).2, h]
  · obtain ⟨i, hi, e⟩ := fi_surj hc hk (fun j hj => (ht j hj).1) hd
    exact ⟨i, hi, by rw [hr i hi]; exact e⟩
section
variable {f_size : Int32} {f_p : Int32} {f_q : Int32} {f_r : Int32} {a_values : (Nat → Int32)} {a_few : (Nat → Int32)}
theorem fi_v39 {post : Int32 → SY → Prop} {J : Int32 → Prop} {m i k : Nat} (hm : m ≤ 3) (hi : i < m) (hk : k < m) (hF : fi_lc a_few (a_few i) m = k → post (a_few i) (f_size, f_p, f_q, f_r, a_values, a_few)) (hN : fi_lc a_few (a_few i) m ≠ k → J (nI (i + 1))) : ∀ d j, j + d = m → wY_valueAt_39 post J (nI k) (nI m) (nI i) f_size f_p f_q f_r a_values a_few (d + 1) (nI (fi_lc a_few (a_few i) j)) (nI j) := by
  intro d
  induction d with
  | zero =>
    intro j hj
    have e : j = m := by omega
    subst e
    have hl := fi_lc_le a_few (a_few i) j
    refine br_t (nI_le (Nat.le_refl j) (by omega)) (pk_eq (fi_lc a_few (a_few i) j) k (fun h => ⟨vp_in_nI (by omega) (by omega), ?_⟩) (fun h => nm_r (nI_1 i) (hN h)))
    rw [nI_clamp (show i < 2 ^ 31 by omega)]
    exact hF h
  | succ d ih =>
    intro j hj
    refine br_f (nI_ge (a := j) (b := m) (by omega) (by omega)) ?_
    rw [nI_clamp (show i < 2 ^ 31 by omega), nI_clamp (show j < 2 ^ 31 by omega)]
    have hr := ih (j + 1) (by omega)
    unfold fi_lc at hr
    refine ⟨vp_in_nI (by omega) (by omega), vp_in_nI (by omega) (by omega), br_c (fun z => nm_r (nI_1 j) ?_) (fun z => nm_r (nI_1 (fi_lc a_few (a_few i) j)) (nm_r (nI_1 j) ?_))⟩
    · rw [if_pos z] at hr; exact hr
    · rw [if_neg z] at hr; exact hr
theorem fi_v27 {post : Int32 → SY → Prop} {m k : Nat} (hm : m ≤ 3) (hk : k < m) (hF : ∀ i, i < m → fi_lc a_few (a_few i) m = k → post (a_few i) (f_size, f_p, f_q, f_r, a_values, a_few)) (hE : ∃ i, i < m ∧ fi_lc a_few (a_few i) m = k) : ∀ d i, i + d = m → (∀ j, j < i → fi_lc a_few (a_few j) m ≠ k) → wY_valueAt_27 post (nI k) (nI m) f_size f_p f_q f_r a_values a_few (d + 1) (nI i) := by
  intro d
  induction d with
  | zero =>
    intro i hi hN
    obtain ⟨j, hj, e⟩ := hE
    exact absurd e (hN j (by omega))
  | succ d ih =>
    intro i hi hN
    exact br_f (nI_ge (a := i) (b := m) (by omega) (by omega)) ⟨m + 1, fi_v39 hm (by omega) hk (fun h => hF i (by omega) h) (fun h => ih (i + 1) (by omega) (lt_s hN h)) m 0 (by omega)⟩
end
theorem i_vc_valueAt {k : Nat} {u : SX} {v : SY} (I : i_Rel k u v) (hk : k + 5 ≤ 2560) (v1 : Int32) (v2 : Int32) : wpX_valueAt (fun r => wpY_valueAt (fun r' v' => r' = r ∧ i_Rel (k + 5) u v') v v1 v2) u v1 v2 := by
  obtain ⟨f_count, f_notLess, f_greater, f_unlike, f_alike, f_awayBroken, f_sumBroken, a_now, a_first, a_least, a_greatest, a_gap, a_some, a_someCount, a_lineState, a_lineP, a_lineQ, a_lineR, a_away⟩ := u
  obtain ⟨f_size, f_p, f_q, f_r, a_values, a_few⟩ := v
  have I' := I
  obtain ⟨n, hs, H⟩ := I'
  obtain ⟨hn, hc, hV, hW, hS⟩ := H
  unfold wpX_valueAt
  dsimp only
  rcases fi_var v1 with ⟨x, hx, ex⟩ | h
  · subst ex
    obtain ⟨c, e1, e2, e3⟩ := (fi_RV hW hx).2
    have hin : vp_in (nI x) 4 := vp_in_nI hx (by omega)
    rw [nI_clamp (show x < 2 ^ 31 by omega), e1]
    have hY : ∀ r : Int32, ((3 < c ∨ v2 < 0 ∨ ¬ v2 < nI c) → -1000 = r) → (c ≤ 3 → ∀ q, q < c → v2 = nI q → a_some (x * 4 + q) = r) → wpY_valueAt (fun r' v' => r' = r ∧ i_Rel (k + 5) (f_count, f_notLess, f_greater, f_unlike, f_alike, f_awayBroken, f_sumBroken, a_now, a_first, a_least, a_greatest, a_gap, a_some, a_someCount, a_lineState, a_lineP, a_lineQ, a_lineR, a_away) v') (f_size, f_p, f_q, f_r, a_values, a_few) (nI x) v2 := by
      intro r h1 h2
      unfold wpY_valueAt
      dsimp only
      refine fi_diffY hx hn hs (fun few hF => ?_)
      rw [← e2] at hF ⊢
      refine pk_lt 3 c (fun h => ⟨h1 (Or.inl h), I⟩) (fun h => br_c (fun h' => ⟨h1 (Or.inr (Or.inl h')), I⟩) (fun h' => br_c (fun h'' => ?_) (fun h'' => ⟨h1 (Or.inr (Or.inr h'')), I⟩)))
      obtain ⟨q, hq, eq⟩ := nI_of h'
      subst eq
      rw [nI_ltI hq (by omega)] at h''
      obtain ⟨s1, s2, s3⟩ := e3 h
      obtain ⟨_, f1, f2, f3⟩ := hF
      obtain ⟨r1, r2⟩ := fi_rank (few := few) (s := fun j => a_some (x * 4 + j)) (k := q) h h'' s1 f1 (fun j hj => by
        obtain ⟨t, ht, et⟩ := f2 j hj
        obtain ⟨l, hl, el⟩ := s2 t ht
        exact ⟨l, hl, el.trans et⟩)
      exact ⟨c + 1, fi_v27 h h'' (fun i hi hr => ⟨(r1 i hi hr).trans (h2 h q h'' rfl), I⟩) r2 c 0 (by omega) (fun j hj => absurd hj (Nat.not_lt_zero j))⟩
    refine fi_isVar_ok hx (br_f fi_n10 ⟨hin, pk_lt 3 c (fun h => hY _ (fun _ => rfl) (fun z => by omega)) (fun h => br_c (fun h' => hY _ (fun _ => rfl) (fun _ q hq e => absurd h' (by rw [e]; exact nI_pos (by omega)))) (fun h' => ⟨hin, br_c (fun h'' => ?_) (fun h'' => hY _ (fun _ => rfl) (fun _ q hq e => absurd (by rw [e]; exact nI_lt hq (by omega)) h''))⟩))⟩)
    obtain ⟨q, hq, eq⟩ := nI_of h'
    subst eq
    rw [nI_ltI hq (by omega)] at h''
    rw [fi_ix4, nI_clamp (show x * 4 + q < 2 ^ 31 by omega)]
    refine ⟨vp_in_nI (by omega) (by omega), hY _ (fun z => ?_) (fun _ q' hq' e => ?_)⟩
    · rcases z with z | z | z
      · omega
      · exact absurd z h'
      · exact absurd (nI_lt h'' (by omega)) z
    · rw [nI_eq hq (by omega)] at e
      rw [e]
  · refine fi_isVar_no h (br_t rfl ?_)
    unfold wpY_valueAt
    exact fi_diffY_no h (br_f (by decide) (br_c (fun _ => ⟨rfl, I⟩) (fun h0 => br_f (fun z => h0 (Int32.lt_trans z (by decide))) ⟨rfl, I⟩)))
end
section
/-! ===== modulus, remainder ===== -/
theorem fi_okdf {f : Nat → Int32} {i : Nat} (h : fi_ok (f i)) (h0 : fi_ok (f 0)) : fi_df f i ≤ 200 := by
  unfold fi_ok at h h0
  unfold fi_df
  omega
theorem fi_modeq {f : Nat → Int32} {i m : Nat} (h2 : 2 ≤ m) (h3 : m ≤ 200) : ((f i - f i / nI m * nI m + nI m) - (f i - f i / nI m * nI m + nI m) / nI m * nI m = (f 0 - f 0 / nI m * nI m + nI m) - (f 0 - f 0 / nI m * nI m + nI m) / nI m * nI m) ↔ fi_df f i % m = 0 := by
  have em : (nI m).toInt = (m : Int) := nI_toInt (by omega)
  rw [← Int32.toInt_inj, fi_mod (by omega) (by omega), fi_mod (by omega) (by omega), em, fi_mod_dvd]
  exact Nat.dvd_iff_mod_eq_zero ..
theorem fi_al_gp {f : Nat → Int32} {n m : Nat} : fi_al (fun i => decide (fi_df f i % m = 0)) n = true ↔ m ∣ fi_gp f n := by
  rw [fi_al_dec (fun i => inferInstance), fi_gp_dvd]
  exact ⟨fun h i hi => Nat.dvd_of_mod_eq_zero (h i hi), fun h i hi => Nat.mod_eq_zero_of_dvd (h i hi)⟩
section
variable {f_size : Int32} {f_p : Int32} {f_q : Int32} {f_r : Int32} {a_values : (Nat → Int32)} {a_few : (Nat → Int32)}
theorem fi_m35 {post : Int32 → SY → Prop} {J : Int32 → Prop} {n x m : Nat} (hx : x < 4) (hn : n ≤ 100) (hs : f_size = nI n) (h2 : 2 ≤ m) (h3 : m ≤ 200) (hJ : fi_al (fun i => decide (fi_df (fi_col a_values x) i % m = 0)) n = false → J (nI (m - 1))) (hp : fi_al (fun i => decide (fi_df (fi_col a_values x) i % m = 0)) n = true → post (nI m) (f_size, f_p, f_q, f_r, a_values, a_few)) : ∀ d i, i + d = n → wY_modulus_35 post J (nI x) (nI m) f_size f_p f_q f_r a_values a_few (d + 1) (fi_01 (fi_al (fun i => decide (fi_df (fi_col a_values x) i % m = 0)) i)) (nI i) := by
  subst hs
  intro d
  induction d with
  | zero =>
    intro i hi
    have e : i = n := by omega
    subst e
    have em : nI m + (-1) = nI (m - 1) := by
      obtain ⟨q, hq⟩ : ∃ q, m = q + 1 := ⟨m - 1, by omega⟩
      subst hq
      exact pk_m1 q
    exact br_t (nI_le (Nat.le_refl i) (by omega)) (br_c (fun z => nm_r em (hJ (fi_01_0 z))) (fun z => hp (fi_01_1 z)))
  | succ d ih =>
    intro i hi
    have hr := ih (i + 1) (by omega)
    have hm0 : ¬ nI m = 0 := nI_ne0 (by omega) (by omega)
    refine br_f (nI_ge (a := i) (b := n) (by omega) (by omega)) (br_c (fun z => nm_r (nI_1 i) ?_) (fun z => ?_))
    · rw [fi_al_01 (fi_01_0 z)] at hr; exact hr
    · rw [fi_cell, nI_clamp (show 4 * i + x < 2 ^ 31 by omega), nI_clamp (show x < 2 ^ 31 by omega)]
      refine ⟨vp_in_nI (by omega) (by omega), hm0, hm0, vp_in_nI (by omega) (by omega), hm0, hm0, ?_⟩
      rw [← fi_col0 a_values x]
      refine ek_if (fi_modeq (f := fi_col a_values x) (i := i) h2 h3) (fun q => nm_r (nI_1 i) ?_) (fun q => nm_r (nI_1 i) ?_)
      · rw [fi_al_11 (fi_01_1 z) (decide_eq_true q)] at hr; exact hr
      · rw [fi_al_10 (decide_eq_false q)] at hr; exact hr
theorem fi_m25 {post : Int32 → SY → Prop} {n x : Nat} (hx : x < 4) (hn : n ≤ 100) (hs : f_size = nI n) (h1 : 1 ≤ fi_gp (fi_col a_values x) n) (hp : post (nI (fi_gp (fi_col a_values x) n)) (f_size, f_p, f_q, f_r, a_values, a_few)) : ∀ m, fi_gp (fi_col a_values x) n ≤ m → m ≤ 200 → wY_modulus_25 post (nI x) f_size f_p f_q f_r a_values a_few (m + 1) (nI m) := by
  intro m
  induction m with
  | zero => intro h; omega
  | succ m ih =>
    intro hg hm
    by_cases h2 : m + 1 < 2
    · refine br_t (nI_lt (a := m + 1) (b := 2) h2 (by omega)) ?_
      rw [show fi_gp (fi_col a_values x) n = 1 by omega] at hp
      exact hp
    · refine br_f (nI_nlt (a := m + 1) (b := 2) (by omega) (by omega)) ⟨n + 1, fi_m35 hx hn hs (by omega) hm (fun h => ih ?_ (by omega)) (fun h => ?_) n 0 (by omega)⟩
      · refine Classical.byContradiction (fun z => ?_)
        have e : fi_gp (fi_col a_values x) n = m + 1 := by omega
        have q : fi_al (fun i => decide (fi_df (fi_col a_values x) i % (m + 1) = 0)) n = true := fi_al_gp.mpr (by rw [e]; exact Nat.dvd_refl _)
        rw [q] at h
        exact absurd h (by decide)
      · have q := Nat.le_of_dvd h1 (fi_al_gp.mp h)
        rw [show fi_gp (fi_col a_values x) n = m + 1 by omega] at hp
        exact hp
theorem fi_Y_mod {post : Int32 → SY → Prop} {n x : Nat} (hx : x < 4) (hn : n ≤ 100) (hs : f_size = nI n) (hV : ∀ i x, i < n → x < 4 → fi_ok (a_values (4 * i + x))) (hp : ∀ few : Nat → Int32, post (nI (fi_gp (fi_col a_values x) n)) (f_size, f_p, f_q, f_r, a_values, few)) : wpY_modulus post (f_size, f_p, f_q, f_r, a_values, a_few) (nI x) := by
  unfold wpY_modulus
  dsimp only
  refine fi_is_ok hx (br_f fi_n10 (fi_diffY hx hn hs (fun few _ => pk_le 2 (min 4 (fi_nd (fi_col a_values x) n)) (fun h => ?_) (fun h => ?_))))
  · obtain ⟨i, hi, hne⟩ := fi_nd_ex (f := fi_col a_values x) (n := n) (by omega)
    refine ⟨201, fi_m25 hx hn hs (fi_gp_pos hi hne) (hp few) 200 (fi_gp_le (fun j hj => ?_)) (by omega)⟩
    exact fi_okdf (f := fi_col a_values x) (hV j x hj hx) (hV 0 x (by omega) hx)
  · have q := hp few
    rw [fi_gp_0 (fi_nd_all (by omega))] at q
    exact q
theorem fi_Y_mod_no {post : Int32 → SY → Prop} {v : Int32} (h : v < 0 ∨ (4 : Int32) ≤ v) (hp : post (-1) (f_size, f_p, f_q, f_r, a_values, a_few)) : wpY_modulus post (f_size, f_p, f_q, f_r, a_values, a_few) v := by
  unfold wpY_modulus
  exact fi_is_no h (br_t rfl hp)
end
section
variable {f_count : Int32} {f_notLess : Int32} {f_greater : Int32} {f_unlike : Int32} {f_alike : Int32} {f_awayBroken : Int32} {f_sumBroken : Int64} {a_now : (Nat → Int32)} {a_first : (Nat → Int32)} {a_least : (Nat → Int32)} {a_greatest : (Nat → Int32)} {a_gap : (Nat → Int32)} {a_some : (Nat → Int32)} {a_someCount : (Nat → Int32)} {a_lineState : (Nat → Int32)} {a_lineP : (Nat → Int32)} {a_lineQ : (Nat → Int32)} {a_lineR : (Nat → Int32)} {a_away : (Nat → Int32)}
theorem fi_X_mod {post : Int32 → Prop} {V : Nat → Int32} {n x : Nat} (hx : x < 4) (hn : n ≤ 100) (hc : f_count = nI n) (hW : fi_W V (fun _ => n) (fun _ => n) f_count f_notLess f_greater f_unlike f_alike f_awayBroken f_sumBroken a_now a_first a_least a_greatest a_gap a_some a_someCount a_lineState a_lineP a_lineQ a_lineR a_away) (hp : post (nI (fi_gp (fi_col V x) n))) : wpX_modulus post (f_count, f_notLess, f_greater, f_unlike, f_alike, f_awayBroken, f_sumBroken, a_now, a_first, a_least, a_greatest, a_gap, a_some, a_someCount, a_lineState, a_lineP, a_lineQ, a_lineR, a_away) (nI x) := by
  unfold wpX_modulus
  dsimp only
  refine fi_isVar_ok hx (br_f fi_n10 ?_)
  by_cases h0 : n = 0
  · subst h0
    exact br_t (hc.trans nI_0) hp
  · obtain ⟨_, _, _, e4⟩ := (fi_RV hW hx).1 (show 0 < n by omega)
    rw [nI_clamp (show x < 2 ^ 31 by omega), e4]
    exact br_f (by rw [hc]; exact nI_ne0 (by omega) (by omega)) ⟨vp_in_nI hx (by omega), hp⟩
theorem fi_X_mod_no {post : Int32 → Prop} {v : Int32} (h : v < 0 ∨ (4 : Int32) ≤ v) (hp : post (-1)) : wpX_modulus post (f_count, f_notLess, f_greater, f_unlike, f_alike, f_awayBroken, f_sumBroken, a_now, a_first, a_least, a_greatest, a_gap, a_some, a_someCount, a_lineState, a_lineP, a_lineQ, a_lineR, a_away) v := by
  unfold wpX_modulus
  exact fi_isVar_no h (br_t rfl hp)
end
theorem i_vc_modulus {k : Nat} {u : SX} {v : SY} (I : i_Rel k u v) (hk : k + 5 ≤ 2560) (v1 : Int32) : wpX_modulus (fun r => wpY_modulus (fun r' v' => r' = r ∧ i_Rel (k + 5) u v') v v1) u v1 := by
  obtain ⟨f_count, f_notLess, f_greater, f_unlike, f_alike, f_awayBroken, f_sumBroken, a_now, a_first, a_least, a_greatest, a_gap, a_some, a_someCount, a_lineState, a_lineP, a_lineQ, a_lineR, a_away⟩ := u
  obtain ⟨f_size, f_p, f_q, f_r, a_values, a_few⟩ := v
  have I' := I
  obtain ⟨n, hs, H⟩ := I'
  obtain ⟨hn, hc, hV, hW, hS⟩ := H
  rcases fi_var v1 with ⟨x, hx, ex⟩ | h
  · subst ex
    exact fi_X_mod hx hn hc hW (fi_Y_mod hx hn hs hV (fun few => ⟨rfl, I⟩))
  · exact fi_X_mod_no h (fi_Y_mod_no h ⟨rfl, I⟩)
theorem i_vc_remainder {k : Nat} {u : SX} {v : SY} (I : i_Rel k u v) (hk : k + 5 ≤ 2560) (v1 : Int32) : wpX_remainder (fun r => wpY_remainder (fun r' v' => r' = r ∧ i_Rel (k + 5) u v') v v1) u v1 := by
  obtain ⟨f_count, f_notLess, f_greater, f_unlike, f_alike, f_awayBroken, f_sumBroken, a_now, a_first, a_least, a_greatest, a_gap, a_some, a_someCount, a_lineState, a_lineP, a_lineQ, a_lineR, a_away⟩ := u
  obtain ⟨f_size, f_p, f_q, f_r, a_values, a_few⟩ := v
  have I' := I
  obtain ⟨n, hs, H⟩ := I'
  obtain ⟨hn, hc, hV, hW, hS⟩ := H
  unfold wpX_remainder
  dsimp only
  rcases fi_var v1 with ⟨x, hx, ex⟩ | h
  · subst ex
    have hg : fi_gp (fi_col a_values x) n ≤ 200 := by
      refine fi_gp_le (fun j hj => ?_)
      exact fi_okdf (f := fi_col a_values x) (hV j x hj hx) (hV 0 x (by omega) hx)
    have hY : ∀ r : Int32, (fi_gp (fi_col a_values x) n < 2 → -1000 = r) → (2 ≤ fi_gp (fi_col a_values x) n → (a_values x).toInt % (fi_gp (fi_col a_values x) n : Nat) = r.toInt) → wpY_remainder (fun r' v' => r' = r ∧ i_Rel (k + 5) (f_count, f_notLess, f_greater, f_unlike, f_alike, f_awayBroken, f_sumBroken, a_now, a_first, a_least, a_greatest, a_gap, a_some, a_someCount, a_lineState, a_lineP, a_lineQ, a_lineR, a_away) v') (f_size, f_p, f_q, f_r, a_values, a_few) (nI x) := by
      intro r h1 h2
      unfold wpY_remainder
      dsimp only
      rw [nI_clamp (show x < 2 ^ 31 by omega)]
      refine fi_Y_mod hx hn hs hV (fun few => pk_lt (fi_gp (fi_col a_values x) n) 2 (fun h => ⟨h1 h, I⟩) (fun h => ?_))
      have hm0 : ¬ nI (fi_gp (fi_col a_values x) n) = 0 := nI_ne0 (by omega) (by omega)
      have em : (nI (fi_gp (fi_col a_values x) n)).toInt = (fi_gp (fi_col a_values x) n : Nat) := nI_toInt (by omega)
      refine ⟨vp_in_nI (by omega) (by omega), hm0, hm0, ?_, I⟩
      apply Int32.toInt_inj.mp
      rw [fi_mod (by omega) (by omega), em]
      exact h2 h
    rw [nI_clamp (show x < 2 ^ 31 by omega)]
    refine fi_X_mod hx hn hc hW (pk_le 2 (fi_gp (fi_col a_values x) n) (fun h => ?_) (fun h => hY _ (fun _ => rfl) (fun z => by omega)))
    have hm0 : ¬ nI (fi_gp (fi_col a_values x) n) = 0 := nI_ne0 (by omega) (by omega)
    have em : (nI (fi_gp (fi_col a_values x) n)).toInt = (fi_gp (fi_col a_values x) n : Nat) := nI_toInt (by omega)
    have h0 : 0 < n := Nat.pos_of_ne_zero (fun z => by
      subst z
      have : fi_gp (fi_col a_values x) 0 = 0 := rfl
      omega)
    obtain ⟨e1, _, _, _⟩ := (fi_RV hW hx).1 h0
    rw [fi_col0] at e1
    rw [e1]
    refine ⟨vp_in_nI hx (by omega), hm0, nm_e (br_c (fun z => hY _ (fun q => by omega) (fun _ => ?_)) (fun z => hY _ (fun q => by omega) (fun _ => ?_)))⟩
    · rw [fi_rem_t (by omega) (by omega) z, em]
    · rw [fi_rem_f (by omega) (by omega) z, em]
  · refine fi_X_mod_no h (br_f (by decide) ?_)
    unfold wpY_remainder
    exact fi_Y_mod_no h (br_t (by decide) ⟨rfl, I⟩)
end
section
/-! ===== find: line, slope, rise ===== -/
/-- what find answers when o is the first sample whose x differs from the first's -/
def fi_fl (f g : Nat → Int32) (o n : Nat) : Bool := !decide (fi_lq f g o = 0) && fi_al (fun i => decide (fi_lp f g o * g i = fi_lq f g o * f i + (fi_lp f g o * g 0 - fi_lq f g o * f 0))) n
theorem fi_uniq {f : Nat → Int32} {o o' : Nat} (h1 : ∀ i, i < o → f i = f 0) (h2 : f o ≠ f 0) (h3 : ∀ i, i < o' → f i = f 0) (h4 : f o' ≠ f 0) : o' = o := by
  by_cases a : o < o'
  · exact absurd (h3 o a) h2
  · by_cases b : o' < o
    · exact absurd (h1 o' b) h4
    · omega
theorem fi_rr {p q x y r : Int32} (h : p * y = q * x + r) : r = p * y - q * x := by
  rw [h]
  grind
theorem fi_line_yes {f g : Nat → Int32} {n o : Nat} {st p q r : Int32} (hf : ∀ i, i < n → fi_ok (f i)) (hg : ∀ i, i < n → fi_ok (g i)) (ho : o < n) (h1 : ∀ i, i < o → f i = f 0) (h2 : f o ≠ f 0) (L : fi_L f g n st p q r) (hst : st = 2) : p = fi_lp f g o ∧ q = fi_lq f g o ∧ r = fi_lp f g o * g 0 - fi_lq f g o * f 0 ∧ fi_fl f g o n = true := by
  rcases L with ⟨_, b⟩ | ⟨_, b, _⟩ | ⟨_, o', ho', s, d, e, e1, e2, e3, on⟩ | ⟨b, _⟩
  · rw [hst] at b; exact absurd b (by decide)
  · rw [hst] at b; exact absurd b (by decide)
  · have eo := fi_uniq h1 h2 (fun i hi => (s i hi).1) d
    subst eo
    have er : fi_lr f g o' = fi_lp f g o' * g 0 - fi_lq f g o' * f 0 := fi_rr (on 0 (by omega))
    refine ⟨e1, e2, e3.trans er, ?_⟩
    unfold fi_fl
    rw [← er, Bool.and_eq_true]
    refine ⟨?_, (fi_al_dec (fun i => inferInstance)).mpr on⟩
    have hq : ¬ fi_lq f g o' = 0 := fi_q_ne (fun z => d (fi_sub0.mp z)) (fun z => e (fi_sub0.mp z)) (fi_subA (hg o' ho) (hg 0 (by omega)))
    rw [decide_eq_false hq]
    rfl
  · rw [hst] at b; exact absurd b (by decide)
theorem fi_line_no {f g : Nat → Int32} {n o : Nat} {st p q r : Int32} (hf : ∀ i, i < n → fi_ok (f i)) (hg : ∀ i, i < n → fi_ok (g i)) (ho : o < n) (h1 : ∀ i, i < o → f i = f 0) (h2 : f o ≠ f 0) (L : fi_L f g n st p q r) (hst : st ≠ 2) : fi_fl f g o n = false := by
  apply ts_nt
  intro hfl
  unfold fi_fl at hfl
  rw [Bool.and_eq_true, fi_al_dec (fun i => inferInstance)] at hfl
  obtain ⟨hq, hal⟩ := hfl
  rcases L with ⟨a, b⟩ | ⟨_, b, _, _, s⟩ | ⟨b, _⟩ | ⟨_, o', ho', s, d⟩
  · omega
  · exact h2 (s o ho).1
  · exact hst b
  · rcases d with ⟨d1, d2⟩ | ⟨d1, d2⟩ | ⟨d1, d2, d3⟩
    · have eo := fi_uniq h1 h2 (fun i hi => (s i hi).1) d1
      subst eo
      have e : fi_lq f g o' = 0 := by
        unfold fi_lq
        rw [fi_sub0.mpr d2]
        exact fi_q_0 _
      rw [decide_eq_true e] at hq
      exact absurd hq (by decide)
    · have e0 := hal 0 (by omega)
      have e1 := hal o' ho'
      rw [d1] at e1
      exact d2 (fi_p_inj (fun z => h2 (fi_sub0.mp z)) (fi_subA (hf o ho) (hf 0 (by omega))) (hg o' ho') (hg 0 (by omega)) (e1.trans e0.symm))
    · have eo := fi_uniq h1 h2 (fun i hi => (s i hi).1) d1
      subst eo
      have er : fi_lr f g o' = fi_lp f g o' * g 0 - fi_lq f g o' * f 0 := fi_rr (fi_on0 (hf 0 (by omega)) (hg 0 (by omega)) (hf o' ho) (hg o' ho) h2)
      apply d3
      intro i hi
      rw [er]
      exact hal i hi
section
variable {f_size : Int32} {f_p : Int32} {f_q : Int32} {f_r : Int32} {a_values : (Nat → Int32)} {a_few : (Nat → Int32)}
theorem fi_f224 {post : Int32 → SY → Prop} {n x y : Nat} {b : Bool} (hx : x < 4) (hy : y < 4) (hn : n ≤ 100) (hs : f_size = nI n) (hp : post (fi_01 (b && fi_al (fun i => decide (f_p * fi_col a_values y i = f_q * fi_col a_values x i + f_r)) n)) (f_size, f_p, f_q, f_r, a_values, a_few)) : ∀ d i, i + d = n → wY_find_224 post (nI x) (nI y) f_size f_p f_q f_r a_values a_few (d + 1) (fi_01 (b && fi_al (fun i => decide (f_p * fi_col a_values y i = f_q * fi_col a_values x i + f_r)) i)) (nI i) := by
  intro d
  induction d with
  | zero =>
    intro i hi
    have e : i = n := by omega
    subst e
    exact br_t (by rw [hs]; exact nI_le (Nat.le_refl i) (by omega)) ⟨fi_01_n _, hp⟩
  | succ d ih =>
    intro i hi
    have hr := ih (i + 1) (by omega)
    rw [fi_al_s, ← Bool.and_assoc] at hr
    refine br_f (by rw [hs]; exact nI_ge (a := i) (b := n) (by omega) (by omega)) (br_c (fun z => nm_r (nI_1 i) ?_) (fun z => ?_))
    · rw [fi_01_0 z, Bool.false_and] at hr; exact hr
    · rw [fi_cell, fi_cell, nI_clamp (show 4 * i + x < 2 ^ 31 by omega), nI_clamp (show 4 * i + y < 2 ^ 31 by omega)]
      rw [fi_01_1 z, Bool.true_and] at hr
      refine ⟨vp_in_nI (by omega) (by omega), vp_in_nI (by omega) (by omega), br_c (fun q => nm_r (nI_1 i) ?_) (fun q => nm_r (nI_1 i) ?_)⟩
      · rw [fi_01_t (decide_eq_true (show f_p * fi_col a_values y i = f_q * fi_col a_values x i + f_r from q))] at hr; exact hr
      · rw [fi_01_f (decide_eq_false (show ¬ f_p * fi_col a_values y i = f_q * fi_col a_values x i + f_r from q))] at hr; exact hr
theorem fi_f173 {post : Int32 → SY → Prop} {n x y : Nat} (hx : x < 4) (hy : y < 4) (hn : n ≤ 100) (hs : f_size = nI n) (h0 : ¬ f_p ≤ 0) (hp : post (fi_01 (!decide (f_q = 0) && fi_al (fun i => decide (f_p * fi_col a_values y i = f_q * fi_col a_values x i + (f_p * a_values y - f_q * a_values x))) n)) (f_size, f_p, f_q, f_p * a_values y - f_q * a_values x, a_values, a_few)) : wY_find_173 post (nI x) (nI y) f_size f_p f_q f_r a_values a_few := by
  unfold wY_find_173
  rw [nI_clamp (show x < 2 ^ 31 by omega), nI_clamp (show y < 2 ^ 31 by omega)]
  refine ⟨vp_in_nI (by omega) (by omega), vp_in_nI (by omega) (by omega), nm_e (br_f h0 (br_c (fun z => ⟨n + 1, ?_⟩) (fun z => ⟨n + 1, ?_⟩)))⟩
  · rw [decide_eq_true z] at hp
    exact fi_f224 (b := false) hx hy hn hs hp n 0 (by omega)
  · rw [decide_eq_false z] at hp
    exact fi_f224 (b := true) hx hy hn hs hp n 0 (by omega)
theorem fi_f127B {post : Int32 → SY → Prop} {x y : Nat} {a b : Int32} (h0 : a ≠ 0) (ha : a.toInt.natAbs ≤ 200) (hb : b.toInt.natAbs ≤ 200) (hp : wY_find_173 post (nI x) (nI y) f_size f_p f_q f_r a_values a_few) : ∀ j, j < fi_pp a.toInt b.toInt → wY_find_127 post (nI x) (nI y) a b f_size f_r a_values a_few (j + 1) (nI j) f_p f_q := by
  have hl := fi_pp_le a.toInt b.toInt
  intro j
  induction j with
  | zero => intro _; exact br_t (nI_lt (a := 0) (b := 1) (by omega) (by omega)) hp
  | succ j ih =>
    intro hj
    refine br_f (nI_nlt (a := j + 1) (b := 1) (by omega) (by omega)) (br_f h0 ⟨h0, br_f (fun z => ?_) (nm_r (pk_m1 j) (ih (by omega)))⟩)
    have q := Nat.le_of_dvd (by omega) ((fi_kdvd (by omega) h0 hb).mp z)
    omega
theorem fi_f127A {post : Int32 → SY → Prop} {x y : Nat} {a b : Int32} (h0 : a ≠ 0) (ha : a.toInt.natAbs ≤ 200) (hb : b.toInt.natAbs ≤ 200) (hp : wY_find_173 post (nI x) (nI y) f_size (fi_p a b) (fi_q a b) f_r a_values a_few) : ∀ (d : Nat) (p q : Int32), fi_pp a.toInt b.toInt + d ≤ 200 → wY_find_127 post (nI x) (nI y) a b f_size f_r a_values a_few (fi_pp a.toInt b.toInt + d + 1) (nI (fi_pp a.toInt b.toInt + d)) p q := by
  have hl := fi_pp_le a.toInt b.toInt
  have hpos := fi_pp_pos b.toInt (fi_ne0 h0)
  obtain ⟨m, hm⟩ : ∃ m, fi_pp a.toInt b.toInt = m + 1 := ⟨fi_pp a.toInt b.toInt - 1, by omega⟩
  intro d
  induction d with
  | zero =>
    intro p q hd
    refine br_f (nI_nlt (a := fi_pp a.toInt b.toInt + 0) (b := 1) (by omega) (by omega)) (br_f h0 ⟨h0, br_t ((fi_kdvd (k := fi_pp a.toInt b.toInt + 0) hd h0 hb).mpr (Nat.dvd_refl _)) ⟨h0, nm_r (fi_kq h0 ha hb) (nm_r (e' := nI m) (by rw [Nat.add_zero, hm]; exact pk_m1 m) ?_)⟩⟩)
    have hB := fi_f127B (f_p := fi_p a b) (f_q := fi_q a b) h0 ha hb hp m (by omega)
    rw [← hm] at hB
    exact hB
  | succ d ih =>
    intro p q hd
    exact br_f (nI_nlt (a := fi_pp a.toInt b.toInt + (d + 1)) (b := 1) (by omega) (by omega)) (br_f h0 ⟨h0, br_c (fun _ => ⟨h0, nm_e (nm_r (pk_m1 (fi_pp a.toInt b.toInt + d)) (ih _ _ (by omega)))⟩) (fun _ => nm_r (pk_m1 (fi_pp a.toInt b.toInt + d)) (ih _ _ (by omega)))⟩)
theorem fi_f84 {post : Int32 → SY → Prop} {n x y o : Nat} (hx : x < 4) (hy : y < 4) (hn : n ≤ 100) (hs : f_size = nI n) (hV : ∀ i x, i < n → x < 4 → fi_ok (a_values (4 * i + x))) (ho : o < n) (hne : fi_col a_values x o ≠ fi_col a_values x 0) (hp : post (fi_01 (fi_fl (fi_col a_values x) (fi_col a_values y) o n)) (f_size, fi_lp (fi_col a_values x) (fi_col a_values y) o, fi_lq (fi_col a_values x) (fi_col a_values y) o, fi_lp (fi_col a_values x) (fi_col a_values y) o * fi_col a_values y 0 - fi_lq (fi_col a_values x) (fi_col a_values y) o * fi_col a_values x 0, a_values, a_few)) : wY_find_84 post (nI x) (nI y) (nI o) f_size f_p f_q f_r a_values a_few := by
  have hox : fi_ok (fi_col a_values x o) := hV o x ho hx
  have hoy : fi_ok (fi_col a_values y o) := hV o y ho hy
  have h0x : fi_ok (fi_col a_values x 0) := hV 0 x (by omega) hx
  have h0y : fi_ok (fi_col a_values y 0) := hV 0 y (by omega) hy
  have hd0 : fi_col a_values x o - fi_col a_values x 0 ≠ 0 := fun z => hne (fi_sub0.mp z)
  have hl := fi_pp_le (fi_col a_values x o - fi_col a_values x 0).toInt (fi_col a_values y o - fi_col a_values y 0).toInt
  have ha := fi_subA hox h0x
  have hb := fi_subA hoy h0y
  unfold wY_find_84
  rw [fi_cell, fi_cell, nI_clamp (show 4 * o + x < 2 ^ 31 by omega), nI_clamp (show 4 * o + y < 2 ^ 31 by omega), nI_clamp (show x < 2 ^ 31 by omega), nI_clamp (show y < 2 ^ 31 by omega)]
  refine ⟨vp_in_nI (by omega) (by omega), vp_in_nI (by omega) (by omega), nm_r (e' := fi_col a_values x o - fi_col a_values x 0) (by rw [fi_col0]; rfl) ⟨vp_in_nI (by omega) (by omega), vp_in_nI (by omega) (by omega), nm_r (e' := fi_col a_values y o - fi_col a_values y 0) (by rw [fi_col0]; rfl) ⟨201, ?_⟩⟩⟩
  have h173 : wY_find_173 post (nI x) (nI y) f_size (fi_p (fi_col a_values x o - fi_col a_values x 0) (fi_col a_values y o - fi_col a_values y 0)) (fi_q (fi_col a_values x o - fi_col a_values x 0) (fi_col a_values y o - fi_col a_values y 0)) f_r a_values a_few := by
    unfold fi_fl fi_lp fi_lq at hp
    rw [fi_col0 a_values y] at hp ⊢
    rw [fi_col0 a_values x] at hp ⊢
    rw [fi_col0 a_values x] at hd0 ha
    exact fi_f173 hx hy hn hs (fi_p_pos hd0 ha) hp
  obtain ⟨d, hd⟩ : ∃ d, fi_pp (fi_col a_values x o - fi_col a_values x 0).toInt (fi_col a_values y o - fi_col a_values y 0).toInt + d = 200 := ⟨200 - fi_pp (fi_col a_values x o - fi_col a_values x 0).toInt (fi_col a_values y o - fi_col a_values y 0).toInt, by omega⟩
  have hA := fi_f127A hd0 ha hb h173 d f_p f_q (by omega)
  rw [hd] at hA
  exact hA
theorem fi_f49 {post : Int32 → SY → Prop} {n x y o : Nat} (hx : x < 4) (hn : n ≤ 100) (hs : f_size = nI n) (ho : o < n) (h1 : ∀ i, i < o → fi_col a_values x i = fi_col a_values x 0) (hne : fi_col a_values x o ≠ fi_col a_values x 0) (hp : wY_find_84 post (nI x) (nI y) (nI o) f_size f_p f_q f_r a_values a_few) : ∀ d i, i + d = o → wY_find_49 post (nI x) (nI y) f_size f_p f_q f_r a_values a_few (d + 1) (nI i) := by
  subst hs
  have es : nI n - 1 = nI (n - 1) := pk_sub (a := n) (b := 1) (by omega)
  have hin : vp_in (nI x) 400 := vp_in_nI (by omega) (by omega)
  intro d
  induction d with
  | zero =>
    intro i hi
    have e : i = o := by omega
    subst e
    refine br_c (fun _ => hp) (fun _ => ⟨?_, hin, br_f ?_ hp⟩)
    · rw [fi_cell]
      exact vp_in_nI (by omega) (by omega)
    · rw [fi_cell, nI_clamp (show 4 * i + x < 2 ^ 31 by omega), nI_clamp (show x < 2 ^ 31 by omega), ← fi_col0 a_values x]
      exact hne
  | succ d ih =>
    intro i hi
    refine br_f (by rw [es]; exact nI_ge (a := i) (b := n - 1) (by omega) (by omega)) ⟨?_, hin, br_t ?_ (nm_r (nI_1 i) (ih (i + 1) (by omega)))⟩
    · rw [fi_cell]
      exact vp_in_nI (by omega) (by omega)
    · rw [fi_cell, nI_clamp (show 4 * i + x < 2 ^ 31 by omega), nI_clamp (show x < 2 ^ 31 by omega), ← fi_col0 a_values x]
      exact h1 i (by omega)
theorem fi_findY {post : Int32 → SY → Prop} {n x y : Nat} (hx : x < 4) (hy : y < 4) (hxy : x ≠ y) (hn : n ≤ 100) (hs : f_size = nI n) (hV : ∀ i x, i < n → x < 4 → fi_ok (a_values (4 * i + x))) (hp1 : (∀ i, i < n → fi_col a_values x i = fi_col a_values x 0) → ∀ few : Nat → Int32, post 0 (f_size, 0, 0, 0, a_values, few)) (hp2 : ∀ (o : Nat) (few : Nat → Int32), o < n → (∀ i, i < o → fi_col a_values x i = fi_col a_values x 0) → fi_col a_values x o ≠ fi_col a_values x 0 → post (fi_01 (fi_fl (fi_col a_values x) (fi_col a_values y) o n)) (f_size, fi_lp (fi_col a_values x) (fi_col a_values y) o, fi_lq (fi_col a_values x) (fi_col a_values y) o, fi_lp (fi_col a_values x) (fi_col a_values y) o * fi_col a_values y 0 - fi_lq (fi_col a_values x) (fi_col a_values y) o * fi_col a_values x 0, a_values, few)) : wpY_find post (f_size, f_p, f_q, f_r, a_values, a_few) (nI x) (nI y) := by
  unfold wpY_find
  dsimp only
  refine fi_Yp_ok hx hy hxy (fi_diffY hx hn hs (fun few _ => pk_le 2 (min 4 (fi_nd (fi_col a_values x) n)) (fun h => ?_) (fun h => hp1 (fi_nd_all (by omega)) few)))
  obtain ⟨i, hi, hne⟩ := fi_nd_ex (f := fi_col a_values x) (n := n) (by omega)
  obtain ⟨o, h2, h3⟩ := pk_least (fun j => fi_col a_values x j ≠ fi_col a_values x 0) ⟨i, hne⟩
  have ho : o < n := by
    refine Classical.byContradiction (fun z => ?_)
    exact h3 i (by omega) hne
  have h1 : ∀ j, j < o → fi_col a_values x j = fi_col a_values x 0 := fun j hj => Classical.byContradiction (fun z => h3 j hj z)
  exact ⟨o + 1, fi_f49 hx hn hs ho h1 h2 (fi_f84 hx hy hn hs hV ho h2 (hp2 o few ho h1 h2)) o 0 (by omega)⟩
theorem fi_findY_no {post : Int32 → SY → Prop} {a b : Int32} (h : ¬ fi_pair a b) (hp : post 0 (f_size, 0, 0, 0, a_values, a_few)) : wpY_find post (f_size, f_p, f_q, f_r, a_values, a_few) a b := by
  unfold wpY_find
  dsimp only
  exact fi_Yp_no h hp
end
section
variable {f_count : Int32} {f_notLess : Int32} {f_greater : Int32} {f_unlike : Int32} {f_alike : Int32} {f_awayBroken : Int32} {f_sumBroken : Int64} {a_now : (Nat → Int32)} {a_first : (Nat → Int32)} {a_least : (Nat → Int32)} {a_greatest : (Nat → Int32)} {a_gap : (Nat → Int32)} {a_some : (Nat → Int32)} {a_someCount : (Nat → Int32)} {a_lineState : (Nat → Int32)} {a_lineP : (Nat → Int32)} {a_lineQ : (Nat → Int32)} {a_lineR : (Nat → Int32)} {a_away : (Nat → Int32)}
theorem fi_has {post : Int32 → Prop} {x y : Nat} (hx : x < 4) (hy : y < 4) (hxy : x ≠ y) (h2 : a_lineState (4 * x + y) = 2 → post 1) (hn : a_lineState (4 * x + y) ≠ 2 → post 0) : wpX_hasLine post (f_count, f_notLess, f_greater, f_unlike, f_alike, f_awayBroken, f_sumBroken, a_now, a_first, a_least, a_greatest, a_gap, a_some, a_someCount, a_lineState, a_lineP, a_lineQ, a_lineR, a_away) (nI x) (nI y) := by
  unfold wpX_hasLine
  dsimp only
  rw [fi_cell, nI_clamp (show 4 * x + y < 2 ^ 31 by omega)]
  exact fi_isPair_ok hx hy hxy (br_f fi_n10 ⟨vp_in_nI (by omega) (by omega), br_c h2 hn⟩)
theorem fi_has_no {post : Int32 → Prop} {a b : Int32} (h : ¬ fi_pair a b) (hp : post 0) : wpX_hasLine post (f_count, f_notLess, f_greater, f_unlike, f_alike, f_awayBroken, f_sumBroken, a_now, a_first, a_least, a_greatest, a_gap, a_some, a_someCount, a_lineState, a_lineP, a_lineQ, a_lineR, a_away) a b := by
  unfold wpX_hasLine
  dsimp only
  exact fi_isPair_no h (br_t rfl hp)
end
theorem i_vc_line {k : Nat} {u : SX} {v : SY} (I : i_Rel k u v) (hk : k + 5 ≤ 2560) (v1 : Int32) (v2 : Int32) : wpX_line (fun r => wpY_line (fun r' v' => r' = r ∧ i_Rel (k + 5) u v') v v1 v2) u v1 v2 := by
  obtain ⟨f_count, f_notLess, f_greater, f_unlike, f_alike, f_awayBroken, f_sumBroken, a_now, a_first, a_least, a_greatest, a_gap, a_some, a_someCount, a_lineState, a_lineP, a_lineQ, a_lineR, a_away⟩ := u
  obtain ⟨f_size, f_p, f_q, f_r, a_values, a_few⟩ := v
  have I' := I
  obtain ⟨n, hs, H⟩ := I'
  obtain ⟨hn, hc, hV, hW, hS⟩ := H
  unfold wpX_line
  dsimp only
  by_cases hp : fi_pair v1 v2
  · obtain ⟨x, y, hx, hy, hxy, ex, ey⟩ := hp
    subst ex
    subst ey
    have L := fi_RL hW hx hy hxy
    have hf : ∀ i, i < n → fi_ok (fi_col a_values x i) := fun i hi => hV i x hi hx
    have hg : ∀ i, i < n → fi_ok (fi_col a_values y i) := fun i hi => hV i y hi hy
    rw [fi_cell, nI_clamp (show 4 * x + y < 2 ^ 31 by omega)]
    refine fi_has hx hy hxy (fun h2 => br_f fi_n10 ⟨vp_in_nI (by omega) (by omega), ?_⟩) (fun h2 => br_t rfl ?_)
    · unfold wpY_line
      dsimp only
      refine fi_findY hx hy hxy hn hs hV (fun hall few => ?_) (fun o few ho h1 hne => ?_)
      · exfalso
        rcases L with ⟨_, b⟩ | ⟨_, b, _⟩ | ⟨_, o', ho', _, d, _⟩ | ⟨b, _⟩
        · rw [h2] at b; exact absurd b (by decide)
        · rw [h2] at b; exact absurd b (by decide)
        · exact d (hall o' ho')
        · rw [h2] at b; exact absurd b (by decide)
      · obtain ⟨e1, e2, e3, e4⟩ := fi_line_yes hf hg ho h1 hne L h2
        refine br_f (by rw [fi_01_t e4]; exact fi_n10) ⟨e1.symm, I⟩
    · unfold wpY_line
      dsimp only
      refine fi_findY hx hy hxy hn hs hV (fun hall few => br_t rfl ⟨rfl, I⟩) (fun o few ho h1 hne => br_t ?_ ⟨rfl, I⟩)
      exact fi_01_f (fi_line_no hf hg ho h1 hne L h2)
  · refine fi_has_no hp (br_t rfl ?_)
    unfold wpY_line
    dsimp only
    exact fi_findY_no hp (br_t rfl ⟨rfl, I⟩)
theorem i_vc_slope {k : Nat} {u : SX} {v : SY} (I : i_Rel k u v) (hk : k + 5 ≤ 2560) (v1 : Int32) (v2 : Int32) : wpX_slope (fun r => wpY_slope (fun r' v' => r' = r ∧ i_Rel (k + 5) u v') v v1 v2) u v1 v2 := by
  obtain ⟨f_count, f_notLess, f_greater, f_unlike, f_alike, f_awayBroken, f_sumBroken, a_now, a_first, a_least, a_greatest, a_gap, a_some, a_someCount, a_lineState, a_lineP, a_lineQ, a_lineR, a_away⟩ := u
  obtain ⟨f_size, f_p, f_q, f_r, a_values, a_few⟩ := v
  have I' := I
  obtain ⟨n, hs, H⟩ := I'
  obtain ⟨hn, hc, hV, hW, hS⟩ := H
  unfold wpX_slope
  dsimp only
  by_cases hp : fi_pair v1 v2
  · obtain ⟨x, y, hx, hy, hxy, ex, ey⟩ := hp
    subst ex
    subst ey
    have L := fi_RL hW hx hy hxy
    have hf : ∀ i, i < n → fi_ok (fi_col a_values x i) := fun i hi => hV i x hi hx
    have hg : ∀ i, i < n → fi_ok (fi_col a_values y i) := fun i hi => hV i y hi hy
    rw [fi_cell, nI_clamp (show 4 * x + y < 2 ^ 31 by omega)]
    refine fi_has hx hy hxy (fun h2 => br_f fi_n10 ⟨vp_in_nI (by omega) (by omega), ?_⟩) (fun h2 => br_t rfl ?_)
    · unfold wpY_slope
      dsimp only
      refine fi_findY hx hy hxy hn hs hV (fun hall few => ?_) (fun o few ho h1 hne => ?_)
      · exfalso
        rcases L with ⟨_, b⟩ | ⟨_, b, _⟩ | ⟨_, o', ho', _, d, _⟩ | ⟨b, _⟩
        · rw [h2] at b; exact absurd b (by decide)
        · rw [h2] at b; exact absurd b (by decide)
        · exact d (hall o' ho')
        · rw [h2] at b; exact absurd b (by decide)
      · obtain ⟨e1, e2, e3, e4⟩ := fi_line_yes hf hg ho h1 hne L h2
        refine br_f (by rw [fi_01_t e4]; exact fi_n10) ⟨e2.symm, I⟩
    · unfold wpY_slope
      dsimp only
      refine fi_findY hx hy hxy hn hs hV (fun hall few => br_t rfl ⟨rfl, I⟩) (fun o few ho h1 hne => br_t ?_ ⟨rfl, I⟩)
      exact fi_01_f (fi_line_no hf hg ho h1 hne L h2)
  · refine fi_has_no hp (br_t rfl ?_)
    unfold wpY_slope
    dsimp only
    exact fi_findY_no hp (br_t rfl ⟨rfl, I⟩)
theorem i_vc_rise {k : Nat} {u : SX} {v : SY} (I : i_Rel k u v) (hk : k + 5 ≤ 2560) (v1 : Int32) (v2 : Int32) : wpX_rise (fun r => wpY_rise (fun r' v' => r' = r ∧ i_Rel (k + 5) u v') v v1 v2) u v1 v2 := by
  obtain ⟨f_count, f_notLess, f_greater, f_unlike, f_alike, f_awayBroken, f_sumBroken, a_now, a_first, a_least, a_greatest, a_gap, a_some, a_someCount, a_lineState, a_lineP, a_lineQ, a_lineR, a_away⟩ := u
  obtain ⟨f_size, f_p, f_q, f_r, a_values, a_few⟩ := v
  have I' := I
  obtain ⟨n, hs, H⟩ := I'
  obtain ⟨hn, hc, hV, hW, hS⟩ := H
  unfold wpX_rise
  dsimp only
  by_cases hp : fi_pair v1 v2
  · obtain ⟨x, y, hx, hy, hxy, ex, ey⟩ := hp
    subst ex
    subst ey
    have L := fi_RL hW hx hy hxy
    have hf : ∀ i, i < n → fi_ok (fi_col a_values x i) := fun i hi => hV i x hi hx
    have hg : ∀ i, i < n → fi_ok (fi_col a_values y i) := fun i hi => hV i y hi hy
    rw [fi_cell, nI_clamp (show 4 * x + y < 2 ^ 31 by omega)]
    refine fi_has hx hy hxy (fun h2 => br_f fi_n10 ⟨vp_in_nI (by omega) (by omega), ?_⟩) (fun h2 => br_t rfl ?_)
    · unfold wpY_rise
      dsimp only
      refine fi_findY hx hy hxy hn hs hV (fun hall few => ?_) (fun o few ho h1 hne => ?_)
      · exfalso
        rcases L with ⟨_, b⟩ | ⟨_, b, _⟩ | ⟨_, o', ho', _, d, _⟩ | ⟨b, _⟩
        · rw [h2] at b; exact absurd b (by decide)
        · rw [h2] at b; exact absurd b (by decide)
        · exact d (hall o' ho')
        · rw [h2] at b; exact absurd b (by decide)
      · obtain ⟨e1, e2, e3, e4⟩ := fi_line_yes hf hg ho h1 hne L h2
        refine br_f (by rw [fi_01_t e4]; exact fi_n10) ⟨e3.symm, I⟩
    · unfold wpY_rise
      dsimp only
      refine fi_findY hx hy hxy hn hs hV (fun hall few => br_t rfl ⟨rfl, I⟩) (fun o few ho h1 hne => br_t ?_ ⟨rfl, I⟩)
      exact fi_01_f (fi_line_no hf hg ho h1 hne L h2)
  · refine fi_has_no hp (br_t rfl ?_)
    unfold wpY_rise
    dsimp only
    exact fi_findY_no hp (br_t rfl ⟨rfl, I⟩)
end
