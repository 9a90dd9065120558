section
/-! rows of kit/rows, as they stand there -/
theorem pk_us {f : Nat → Int32} {k : Nat} {x : Int32} : upd f k x k = x := if_pos rfl
theorem pk_un {f : Nat → Int32} {k j : Nat} {x : Int32} (h : j ≠ k) : upd f k x j = f j := if_neg h
theorem pk_sub {a b : Nat} (h : b ≤ a) : nI a - nI b = nI (a - b) := by
  obtain ⟨c, rfl⟩ : ∃ c, a = c + b := ⟨a - b, by omega⟩
  rw [← nI_add, Int32.add_sub_cancel, Nat.add_sub_cancel]
theorem pk_m1 (n : Nat) : nI (n + 1) + (-1) = nI n := by
  rw [← nI_1, Int32.add_assoc, show (1 : Int32) + (-1) = 0 from rfl, Int32.add_zero]
theorem pk_mul (a b : Nat) : nI a * nI b = nI (a * b) := (Int32.ofNat_mul a b).symm
theorem pk_ix (x : Int32) {n : Nat} (hn : n < 2 ^ 31) : x < 0 ∨ nI n ≤ x ∨ ∃ j : Nat, j < n ∧ x = nI j := by
  by_cases h : x < 0
  · exact Or.inl h
  · obtain ⟨j, hj, rfl⟩ := nI_of h
    by_cases h2 : j < n
    · exact Or.inr (Or.inr ⟨j, h2, rfl⟩)
    · exact Or.inr (Or.inl (nI_le (by omega) hj))
theorem pk_le {x y : Int32} {A B : Prop} (a b : Nat) (f : a ≤ b → A) (g : b < a → B) (hx : x = nI a := by rfl) (hy : y = nI b := by rfl) (ha : a < 2 ^ 31 := by omega) (hb : b < 2 ^ 31 := by omega) : (x ≤ y → A) ∧ (¬ x ≤ y → B) := by
  subst hx hy
  rw [nI_leI ha hb]
  exact ⟨f, fun z => g (by omega)⟩
theorem pk_lt {x y : Int32} {A B : Prop} (a b : Nat) (f : a < b → A) (g : b ≤ a → B) (hx : x = nI a := by rfl) (hy : y = nI b := by rfl) (ha : a < 2 ^ 31 := by omega) (hb : b < 2 ^ 31 := by omega) : (x < y → A) ∧ (¬ x < y → B) := by
  subst hx hy
  rw [nI_ltI ha hb]
  exact ⟨f, fun z => g (by omega)⟩
theorem pk_eq {x y : Int32} {A B : Prop} (a b : Nat) (f : a = b → A) (g : a ≠ b → B) (hx : x = nI a := by rfl) (hy : y = nI b := by rfl) (ha : a < 2 ^ 31 := by omega) (hb : b < 2 ^ 31 := by omega) : (x = y → A) ∧ (¬ x = y → B) := by
  subst hx hy
  rw [nI_eq ha hb]
  exact ⟨f, g⟩
theorem pk_in {x : Int32} (n N : Nat) (h : n < N) (hx : x = nI n := by rfl) (hN : N < 2 ^ 31 := by omega) : vp_in x N := by
  subst hx
  exact vp_in_nI h hN
theorem pk_cl {x : Int32} (n : Nat) (hx : x = nI n := by rfl) (h : n < 2 ^ 31 := by omega) : x.toNatClampNeg = n := by
  subst hx
  exact nI_clamp h
theorem pk_tn {n : Nat} (h : n < 2 ^ 32) : (nI n).toBitVec.toNat = n := Nat.mod_eq_of_lt h
theorem pk_and (x : Int32) {m : Int32} (k : Nat) (hm : m.toBitVec.toNat = 2 ^ k - 1) : x &&& m = nI (x.toBitVec.toNat % 2 ^ k) := by
  apply Int32.toBitVec_inj.mp
  apply BitVec.eq_of_toNat_eq
  rw [Int32.toBitVec_and, BitVec.toNat_and, hm, Nat.and_two_pow_sub_one_eq_mod]
  show _ = (BitVec.ofNat 32 _).toNat
  rw [BitVec.toNat_ofNat]
  exact (Nat.mod_eq_of_lt (Nat.lt_of_le_of_lt (Nat.mod_le _ _) x.toBitVec.isLt)).symm
theorem pk_andN {n : Nat} (h : n < 2 ^ 32) {m : Int32} (k : Nat) (hm : m.toBitVec.toNat = 2 ^ k - 1) : nI n &&& m = nI (n % 2 ^ k) := by
  rw [pk_and _ k hm, pk_tn h]
theorem pk_shl (a s : Int32) (k : Nat) (hs : (s.toBitVec.smod 32).toNat = k) : (a <<< s).toBitVec.toNat = a.toBitVec.toNat * 2 ^ k % 2 ^ 32 := by
  show (a.toBitVec <<< (s.toBitVec.smod 32).toNat).toNat = _
  rw [hs, BitVec.toNat_shiftLeft, Nat.shiftLeft_eq]
theorem pk_shlN {n : Nat} (s : Int32) (k : Nat) (hs : (s.toBitVec.smod 32).toNat = k) (h : n * 2 ^ k < 2 ^ 32) : nI n <<< s = nI (n * 2 ^ k) := by
  apply Int32.toBitVec_inj.mp
  apply BitVec.eq_of_toNat_eq
  have hn : n < 2 ^ 32 := Nat.lt_of_le_of_lt (Nat.le_mul_of_pos_right n (Nat.two_pow_pos k)) h
  rw [pk_shl _ _ k hs, pk_tn hn, pk_tn h, Nat.mod_eq_of_lt h]
theorem pk_shr (a s : Int32) (k : Nat) (hs : (s.toBitVec.smod 32).toNat = k) : (a >>> s).toInt = a.toInt >>> k := by
  show (a.toBitVec.sshiftRight (s.toBitVec.smod 32).toNat).toInt = _
  rw [hs, BitVec.toInt_sshiftRight]
  rfl
theorem pk_shrN {n : Nat} (h : n < 2 ^ 31) (s : Int32) (k : Nat) (hs : (s.toBitVec.smod 32).toNat = k) : nI n >>> s = nI (n / 2 ^ k) := by
  apply Int32.toInt_inj.mp
  have h2 : n / 2 ^ k ≤ n := Nat.div_le_self _ _
  rw [pk_shr _ _ k hs, nI_toInt h, nI_toInt (by omega), Int.shiftRight_eq_div_pow]
  rfl
theorem pk_nb (z : Int32) : narrow .byte (.int z.toInt8.toInt32) = .int z.toInt8.toInt32 := congrArg Value.int (by simp)
theorem pk_ns (z : Int32) : narrow .short (.int z.toInt16.toInt32) = .int z.toInt16.toInt32 := congrArg Value.int (by simp)
theorem pk_vb (z : Int32) : vp_nar .byte z.toInt8.toInt32 = z.toInt8.toInt32 := by rw [vp_nar_byte]; simp
theorem pk_vs (z : Int32) : vp_nar .short z.toInt16.toInt32 = z.toInt16.toInt32 := by rw [vp_nar_short]; simp
def bt (x : Int32) (i : Nat) : Bool := x.toBitVec.getLsbD i
theorem b_ext {x y : Int32} (h : ∀ i, i < 32 → bt x i = bt y i) : x = y := Int32.toBitVec_inj.mp (BitVec.eq_of_getLsbD_eq (fun i hi => h i hi))
theorem b_or (x y : Int32) (i : Nat) : bt (x ||| y) i = (bt x i || bt y i) := by unfold bt; rw [Int32.toBitVec_or, BitVec.getLsbD_or]
theorem b_and (x y : Int32) (i : Nat) : bt (x &&& y) i = (bt x i && bt y i) := by unfold bt; rw [Int32.toBitVec_and, BitVec.getLsbD_and]
theorem b_xor (x y : Int32) (i : Nat) : bt (x ^^^ y) i = (bt x i ^^ bt y i) := by unfold bt; rw [Int32.toBitVec_xor, BitVec.getLsbD_xor]
theorem b_m1 : ∀ i, i < 32 → bt (-1) i = true := by decide +kernel
theorem b_0 (i : Nat) : bt 0 i = false := BitVec.getLsbD_zero
theorem s_l : ∀ n, n < 32 → ((nI n &&& 31).toBitVec.smod 32).toNat = n := by decide +kernel
theorem nx_and (a b : Nat) : nI a &&& nI b = nI (a &&& b) := by
  apply Int32.toBitVec_inj.1
  show BitVec.ofNat 32 a &&& BitVec.ofNat 32 b = BitVec.ofNat 32 (a &&& b)
  apply BitVec.eq_of_getLsbD_eq
  intro i hi
  simp [hi]
theorem nx_xor (a b : Nat) : nI a ^^^ nI b = nI (a ^^^ b) := by
  apply Int32.toBitVec_inj.1
  show BitVec.ofNat 32 a ^^^ BitVec.ofNat 32 b = BitVec.ofNat 32 (a ^^^ b)
  apply BitVec.eq_of_getLsbD_eq
  intro i hi
  simp [hi]
end
section
/-! numbers and bits: cubes are naturals below 128 -/
theorem kd_or (a b : Nat) : nI a ||| nI b = nI (a ||| b) := by
  apply Int32.toBitVec_inj.1
  show BitVec.ofNat 32 a ||| BitVec.ofNat 32 b = BitVec.ofNat 32 (a ||| b)
  apply BitVec.eq_of_getLsbD_eq
  intro i hi
  simp [hi]
/-- the letters of a that b hasn't -/
def kd_df (a b : Nat) : Nat := a ^^^ (a &&& b)
theorem kd_dfI (a b : Nat) : nI a &&& (nI b ^^^ (-1)) = nI (kd_df a b) := by
  rw [kd_df, ← nx_xor, ← nx_and]
  apply b_ext
  intro i hi
  rw [b_and, b_xor, b_m1 i hi, b_xor, b_and]
  cases bt (nI a) i <;> cases bt (nI b) i <;> rfl
theorem kd_dfT (a b i : Nat) : (kd_df a b).testBit i = (a.testBit i && !b.testBit i) := by
  rw [kd_df, Nat.testBit_xor, Nat.testBit_and]
  cases a.testBit i <;> cases b.testBit i <;> rfl
theorem kd_and_lt {a : Nat} (b : Nat) (h : a < 128) : a &&& b < 128 := Nat.lt_of_le_of_lt Nat.and_le_left h
theorem kd_or_lt {a b : Nat} (ha : a < 128) (hb : b < 128) : a ||| b < 128 := Nat.or_lt_two_pow (n := 7) ha hb
theorem kd_df_lt {a : Nat} (b : Nat) (h : a < 128) : kd_df a b < 128 := Nat.xor_lt_two_pow (n := 7) h (kd_and_lt b h)
theorem kd_tb7 {a i : Nat} (h : a < 128) (hi : 7 ≤ i) : a.testBit i = false :=
  Nat.testBit_lt_two_pow (Nat.lt_of_lt_of_le h (Nat.pow_le_pow_right (n := 2) (by decide) hi))
theorem kd_tb7' {a i : Nat} (h : a < 128) (hi : a.testBit i = true) : i < 7 := by
  rcases Nat.lt_or_ge i 7 with z | z
  · exact z
  · rw [kd_tb7 h z] at hi; exact absurd hi (by decide)
theorem kd_z_iff {a : Nat} : a = 0 ↔ ∀ i, a.testBit i = false := by
  constructor
  · intro h i; rw [h, Nat.zero_testBit]
  · intro h; apply Nat.eq_of_testBit_eq; intro i; rw [h i, Nat.zero_testBit]
/-- all letters of c are in o -/
def kd_sub (c o : Nat) : Bool := kd_df c o == 0
theorem kd_sub_iff {c o : Nat} : kd_sub c o = true ↔ ∀ i, c.testBit i = true → o.testBit i = true := by
  rw [kd_sub, beq_iff_eq, kd_z_iff]
  constructor
  · intro h i hc
    have := h i
    rw [kd_dfT, hc] at this
    cases e : o.testBit i
    · rw [e] at this; exact absurd this (by decide)
    · rfl
  · intro h i
    rw [kd_dfT]
    cases e : c.testBit i
    · rfl
    · rw [h i e]; rfl
theorem kd_bit {p i : Nat} (hp : p < 2 ^ 31) (hi : i < 32) : (nI p >>> (nI i &&& 31)) &&& 1 = nI (p.testBit i).toNat := by
  rw [pk_shrN hp _ i (s_l i hi), pk_andN (Nat.lt_of_le_of_lt (Nat.div_le_self _ _) (by omega)) 1 (by decide), Nat.toNat_testBit]
theorem kd_pow {i : Nat} (hi : i < 31) : (1 : Int32) <<< (nI i &&& 31) = nI (2 ^ i) := by
  have h : 1 * 2 ^ i < 2 ^ 32 := by
    rw [Nat.one_mul]
    exact Nat.pow_lt_pow_right (by decide) (by omega)
  have := pk_shlN (n := 1) (nI i &&& 31) i (s_l i (by omega)) h
  rw [Nat.one_mul] at this
  exact this
theorem kd_byte {c : Nat} (h : c < 128) : (nI c).toInt8.toInt32 = nI c := by
  apply lg_i2b_small
  · rw [nI_toInt (by omega)]; omega
  · rw [nI_toInt (by omega)]; omega
theorem kd_nb {c : Nat} (h : c < 128) : vp_nar .byte (nI c) = nI c := by rw [vp_nar_byte, kd_byte h]
theorem kd_nb2 {c : Nat} (h : c < 128) : vp_nar .byte (nI c).toInt8.toInt32 = nI c := by rw [kd_byte h, kd_nb h]
theorem kd_sh {c : Nat} (h : c < 32768) : (nI c).toInt16.toInt32 = nI c := by
  apply lg_i2s_small
  · rw [nI_toInt (by omega)]; omega
  · rw [nI_toInt (by omega)]; omega
theorem kd_ns2 {c : Nat} (h : c < 32768) : vp_nar .short (nI c).toInt16.toInt32 = nI c := by rw [kd_sh h, vp_nar_short, kd_sh h]
def kd_bI (b : Bool) : Int32 := cond b 1 0
theorem kd_bI_n (b : Bool) : vp_nar .boolean (kd_bI b) = kd_bI b := by cases b <;> rfl
theorem kd_bI_0 {b : Bool} (h : b = false) : kd_bI b = 0 := by rw [h]; rfl
theorem kd_bI_1 {b : Bool} (h : b = true) : ¬ kd_bI b = 0 := by rw [h]; decide
/-- a branch on a cell that holds a boolean -/
theorem kd_brb {x : Int32} {A B : Prop} (b : Bool) (hx : x = kd_bI b) (f : b = false → A) (g : b = true → B) : (x = 0 → A) ∧ (¬ x = 0 → B) := by
  subst hx
  cases b
  · exact br_t rfl (f rfl)
  · exact br_f (by decide) (g rfl)
theorem kd_in {post : Int32 → Prop} {p i : Nat} (hp : p < 2 ^ 31) (hi : i < 32) (h : post (kd_bI (p.testBit i))) : wpX_in post (nI p) (nI i) := by
  unfold wpX_in
  rw [kd_bit hp hi]
  cases e : p.testBit i
  · rw [e] at h; exact br_t rfl h
  · rw [e] at h; exact br_f (by decide) h
/-- the number of ones among d bits from i on -/
def kd_os (p : Nat) : Nat → Nat → Nat
  | _, 0 => 0
  | i, d + 1 => (p.testBit i).toNat + kd_os p (i + 1) d
theorem kd_ones_l {post : Int32 → Prop} {p : Nat} (hp : p < 2 ^ 31) : ∀ d i a : Nat, i + d = 8 → post (nI (a + kd_os p i d)) → wX_ones_4 post (nI p) (d + 1) (nI a) (nI i) := by
  intro d
  induction d with
  | zero => intro i a hi h; exact pk_le 8 i (fun _ => h) (fun z => absurd z (by omega))
  | succ d ih =>
    intro i a hi h
    refine pk_le 8 i (fun z => absurd z (by omega)) (fun _ => nm_r (e' := nI (a + (p.testBit i).toNat)) ?_ (nm_r (nI_1 i) ?_))
    · rw [kd_bit hp (by omega), nI_add]
    · apply ih (i + 1) _ (by omega)
      rw [Nat.add_assoc]
      exact h
theorem kd_ones {post : Int32 → Prop} {p : Nat} (hp : p < 2 ^ 31) (h : post (nI (kd_os p 0 8))) : wpX_ones post (nI p) :=
  ⟨9, kd_ones_l hp 8 0 0 rfl (by rw [Nat.zero_add]; exact h)⟩
theorem kd_os_add (p : Nat) : ∀ d k i : Nat, kd_os p i (d + k) = kd_os p i d + kd_os p (i + d) k := by
  intro d
  induction d with
  | zero => intro k i; rw [Nat.zero_add]; show _ = 0 + _; rw [Nat.zero_add]; rfl
  | succ d ih =>
    intro k i
    rw [show d + 1 + k = (d + k) + 1 from by omega]
    show _ + kd_os p (i + 1) (d + k) = (_ + kd_os p (i + 1) d) + _
    rw [ih, show i + (d + 1) = i + 1 + d from by omega, Nat.add_assoc (p.testBit i).toNat]
theorem kd_os87 {p : Nat} (h : p < 128) : kd_os p 0 8 = kd_os p 0 7 := by
  rw [show 8 = 7 + 1 from rfl, kd_os_add]
  show _ + ((p.testBit 7).toNat + 0) = _
  rw [kd_tb7 h (Nat.le_refl 7)]
  rfl
theorem kd_isE0 {post : Int32 → Prop} {x : Int32} (h : x < 0 ∨ nI 4 ≤ x) (p : post 0) : wpX_isExpression post x := by
  unfold wpX_isExpression
  rcases h with h | h
  · exact br_t h p
  · exact br_c (fun _ => p) (fun _ => br_t h p)
theorem kd_isE1 {post : Int32 → Prop} {e : Nat} (he : e < 4) (p : post 1) : wpX_isExpression post (nI e) := by
  unfold wpX_isExpression
  exact br_f (nI_pos (by omega)) (br_f (nI_ge (b := 4) he (by decide)) p)
theorem kd_isC0 {post : Int32 → Prop} {x : Int32} (h : x < 0 ∨ nI 128 ≤ x) (p : post 0) : wpX_isCube post x := by
  unfold wpX_isCube
  rcases h with h | h
  · exact br_t h p
  · exact br_c (fun _ => p) (fun _ => br_t h p)
theorem kd_isC1 {post : Int32 → Prop} {e : Nat} (he : e < 128) (p : post 1) : wpX_isCube post (nI e) := by
  unfold wpX_isCube
  exact br_f (nI_pos (by omega)) (br_f (nI_ge (b := 128) he (by decide)) p)
theorem kd_yE0 {post : Int32 → Prop} {x : Int32} (v : SY) (h : x < 0 ∨ nI 4 ≤ x) (p : post 0) : wpY_expression post v x := by
  obtain ⟨a, b, c⟩ := v
  show (_ → _) ∧ (_ → _)
  rcases h with h | h
  · exact br_t h p
  · exact br_c (fun _ => p) (fun _ => br_t (Int32.lt_of_lt_of_le (by decide) h) p)
theorem kd_yE1 {post : Int32 → Prop} {e : Nat} (v : SY) (he : e < 4) (p : post 1) : wpY_expression post v (nI e) := by
  obtain ⟨a, b, c⟩ := v
  show (_ → _) ∧ (_ → _)
  exact br_f (nI_pos (by omega)) (br_f (nI_nlt (a := 3) (b := e) (by omega) (by decide)) p)
theorem kd_yC0 {post : Int32 → Prop} {x : Int32} (v : SY) (h : x < 0 ∨ nI 128 ≤ x) (p : post 0) : wpY_isCube post v x := by
  obtain ⟨a, b, c⟩ := v
  show (_ → _) ∧ (_ → _)
  rcases h with h | h
  · exact br_t h p
  · exact br_c (fun _ => p) (fun _ => br_t (Int32.lt_of_lt_of_le (by decide) h) p)
theorem kd_yC1 {post : Int32 → Prop} {e : Nat} (v : SY) (he : e < 128) (p : post 1) : wpY_isCube post v (nI e) := by
  obtain ⟨a, b, c⟩ := v
  show (_ → _) ∧ (_ → _)
  exact br_f (nI_pos (by omega)) (br_f (nI_nlt (a := 127) (b := e) (by omega) (by decide)) p)
end
section
/-! sorted lists of cubes, segments of an array, masks -/
def kd_fl (s : Nat → Bool) (c d : Nat) : List Nat := (List.range' c d).filter s
/-- the cubes of a set, from the least on -/
def kd_ls (s : Nat → Bool) : List Nat := kd_fl s 0 128
theorem kd_flt {s : Nat → Bool} {c : Nat} (d : Nat) (h : s c = true) : kd_fl s c (d + 1) = c :: kd_fl s (c + 1) d := by
  unfold kd_fl
  rw [List.range'_succ, List.filter_cons_of_pos h]
theorem kd_flf {s : Nat → Bool} {c : Nat} (d : Nat) (h : s c = false) : kd_fl s c (d + 1) = kd_fl s (c + 1) d := by
  unfold kd_fl
  rw [List.range'_succ, List.filter_cons_of_neg (by rw [h]; decide)]
theorem kd_flm {s : Nat → Bool} {c d x : Nat} : x ∈ kd_fl s c d ↔ (c ≤ x ∧ x < c + d) ∧ s x = true := by
  unfold kd_fl
  rw [List.mem_filter, List.mem_range'_1]
theorem kd_lsm {s : Nat → Bool} {x : Nat} : x ∈ kd_ls s ↔ x < 128 ∧ s x = true := by
  rw [kd_ls, kd_flm]
  constructor
  · intro h; exact ⟨by omega, h.2⟩
  · intro h; exact ⟨by omega, h.2⟩
theorem kd_lss (s : Nat → Bool) : (kd_ls s).Pairwise (· < ·) := List.Pairwise.filter _ List.pairwise_lt_range'
theorem kd_nd {l : List Nat} (h : l.Pairwise (· < ·)) : l.Nodup := h.imp (fun z => Nat.ne_of_lt z)
theorem kd_uni {l m : List Nat} (hl : l.Pairwise (· < ·)) (hm : m.Pairwise (· < ·)) (h : ∀ x, x ∈ l ↔ x ∈ m) : l = m :=
  List.Perm.eq_of_pairwise (le := (· < ·)) (fun a b _ _ (h1 : a < b) (h2 : b < a) => absurd h1 (Nat.lt_asymm h2)) hl hm ((List.perm_ext_iff_of_nodup (kd_nd hl) (kd_nd hm)).mpr h)
theorem kd_unil {l : List Nat} {s : Nat → Bool} (hl : l.Pairwise (· < ·)) (h : ∀ x, x ∈ l ↔ x < 128 ∧ s x = true) : l = kd_ls s :=
  kd_uni hl (kd_lss s) (fun x => (h x).trans kd_lsm.symm)
theorem kd_lsc {s t : Nat → Bool} (h : ∀ x, x < 128 → s x = t x) : kd_ls s = kd_ls t :=
  kd_unil (kd_lss s) (fun x => kd_lsm.trans ⟨fun z => ⟨z.1, (h x z.1).symm.trans z.2⟩, fun z => ⟨z.1, (h x z.1).trans z.2⟩⟩)
theorem kd_len128 {l : List Nat} (hl : l.Nodup) (h : ∀ x, x ∈ l → x < 128) : l.length ≤ 128 := by
  have := List.Nodup.length_le_of_subset (l₂ := List.range 128) hl (fun x hx => List.mem_range.mpr (h x hx))
  rw [List.length_range] at this
  exact this
/-- the cells of an array from b on hold a list -/
def kd_SG (a : Nat → Int32) : Nat → List Nat → Prop
  | _, [] => True
  | b, c :: l => a b = nI c ∧ kd_SG a (b + 1) l
theorem kd_SGa {a : Nat → Int32} {m : List Nat} : ∀ {l : List Nat} {b : Nat}, kd_SG a b (l ++ m) ↔ kd_SG a b l ∧ kd_SG a (b + l.length) m := by
  intro l
  induction l with
  | nil => intro b; exact ⟨fun h => ⟨trivial, h⟩, fun h => h.2⟩
  | cons c l ih =>
    intro b
    show (_ ∧ kd_SG a (b + 1) (l ++ m)) ↔ (_ ∧ _) ∧ _
    rw [ih, and_assoc, List.length_cons, show b + 1 + l.length = b + (l.length + 1) from by omega]
theorem kd_SGc {a a' : Nat → Int32} : ∀ {l : List Nat} {b : Nat}, (∀ k, b ≤ k → k < b + l.length → a' k = a k) → kd_SG a b l → kd_SG a' b l := by
  intro l
  induction l with
  | nil => intro b _ _; trivial
  | cons c l ih =>
    intro b h z
    rw [List.length_cons] at h
    exact ⟨(h b (Nat.le_refl b) (by omega)).trans z.1, ih (fun k h1 h2 => h k (by omega) (by omega)) z.2⟩
theorem kd_SGu {a : Nat → Int32} {k : Nat} {v : Int32} {l : List Nat} {b : Nat} (h : k < b ∨ b + l.length ≤ k) (z : kd_SG a b l) : kd_SG (upd a k v) b l :=
  kd_SGc (fun j h1 h2 => pk_un (by omega)) z
/-- row e of the cubes holds a list -/
def kd_RW (sz cb : Nat → Int32) (e : Nat) (l : List Nat) : Prop := sz e = nI l.length ∧ l.length ≤ 8 ∧ (∀ x, x ∈ l → x < 128) ∧ kd_SG cb (e * 8) l
theorem kd_ix (e i : Nat) : nI e * 8 + nI i = nI (e * 8 + i) := by
  rw [show (8 : Int32) = nI 8 from rfl, pk_mul, nI_add]
theorem kd_ix_in {e i : Nat} (he : e < 4) (hi : i < 8) : vp_in (nI e * 8 + nI i) 32 := by
  rw [kd_ix]; exact vp_in_nI (by omega) (by decide)
theorem kd_ix_cl {e i : Nat} (he : e < 4) (hi : i < 8) : (nI e * 8 + nI i).toNatClampNeg = e * 8 + i := by
  rw [kd_ix]; exact nI_clamp (by omega)
section
variable {sz cb : Nat → Int32} {e : Nat} {l : List Nat}
theorem kd_rw0 (H : kd_RW sz cb e l) (he : e < 4) : vp_in (nI e) 4 ∧ sz (nI e).toNatClampNeg = nI l.length ∧ l.length ≤ 8 :=
  ⟨vp_in_nI he (by decide), by rw [nI_clamp (by omega)]; exact H.1, H.2.1⟩
theorem kd_rw1 {pre suf : List Nat} {c i : Nat} (H : kd_RW sz cb e l) (he : e < 4) (hl : l = pre ++ c :: suf) (hi : pre.length = i) : i < l.length ∧ c < 128 ∧ vp_in (nI e * 8 + nI i) 32 ∧ cb (nI e * 8 + nI i).toNatClampNeg = nI c := by
  have h8 := H.2.1
  have hi8 : i < l.length := by
    rw [hl, List.length_append, List.length_cons]; omega
  refine ⟨hi8, H.2.2.1 c (by rw [hl]; simp), kd_ix_in he (by omega), ?_⟩
  rw [kd_ix_cl he (by omega)]
  have := H.2.2.2
  rw [hl, kd_SGa, hi] at this
  exact this.2.1
end
/-- the places of a list that have P, as bits from i on -/
def kd_mk (P : Nat → Bool) : Nat → List Nat → Nat
  | _, [] => 0
  | i, c :: l => cond (P c) (2 ^ i) 0 ||| kd_mk P (i + 1) l
theorem kd_cp (b : Bool) (i j : Nat) : (cond b (2 ^ i) 0).testBit j = (b && decide (i = j)) := by
  cases b
  · exact Nat.zero_testBit j
  · exact Nat.testBit_two_pow
theorem kd_mk_lo {P : Nat → Bool} : ∀ {l : List Nat} {i j : Nat}, j < i → (kd_mk P i l).testBit j = false := by
  intro l
  induction l with
  | nil => intro i j _; exact Nat.zero_testBit j
  | cons c l ih =>
    intro i j h
    show (_ ||| kd_mk P (i + 1) l).testBit j = false
    rw [Nat.testBit_or, kd_cp, ih (by omega), decide_eq_false (by omega), Bool.and_false]
    rfl
theorem kd_mk_hi {P : Nat → Bool} : ∀ {l : List Nat} {i j : Nat}, i + l.length ≤ j → (kd_mk P i l).testBit j = false := by
  intro l
  induction l with
  | nil => intro i j _; exact Nat.zero_testBit j
  | cons c l ih =>
    intro i j h
    rw [List.length_cons] at h
    show (_ ||| kd_mk P (i + 1) l).testBit j = false
    rw [Nat.testBit_or, kd_cp, ih (by omega), decide_eq_false (by omega), Bool.and_false]
    rfl
theorem kd_mk_at {P : Nat → Bool} {c : Nat} {suf : List Nat} : ∀ {pre : List Nat} {i : Nat}, (kd_mk P i (pre ++ c :: suf)).testBit (i + pre.length) = P c := by
  intro pre
  induction pre with
  | nil =>
    intro i
    show (_ ||| kd_mk P (i + 1) suf).testBit i = P c
    rw [Nat.testBit_or, kd_cp, kd_mk_lo (by omega), decide_eq_true rfl, Bool.and_true, Bool.or_false]
  | cons a pre ih =>
    intro i
    show (_ ||| kd_mk P (i + 1) (pre ++ c :: suf)).testBit (i + (pre.length + 1)) = P c
    rw [Nat.testBit_or, kd_cp, decide_eq_false (by omega), Bool.and_false, Bool.false_or, show i + (pre.length + 1) = i + 1 + pre.length from by omega]
    exact ih
theorem kd_mk_lt {P : Nat → Bool} {l : List Nat} (h : l.length ≤ 8) : kd_mk P 0 l < 256 :=
  Nat.lt_pow_two_of_testBit (n := 8) _ (fun i hi => kd_mk_hi (by omega))
theorem kd_mk_c {P Q : Nat → Bool} : ∀ {l : List Nat} {i : Nat}, (∀ x, x ∈ l → P x = Q x) → kd_mk P i l = kd_mk Q i l := by
  intro l
  induction l with
  | nil => intro i _; rfl
  | cons c l ih =>
    intro i h
    show _ ||| kd_mk P (i + 1) l = _ ||| kd_mk Q (i + 1) l
    rw [h c List.mem_cons_self, ih (fun x hx => h x (List.mem_cons_of_mem _ hx))]
theorem kd_os_c {p q : Nat} : ∀ {d i : Nat}, (∀ j, i ≤ j → p.testBit j = q.testBit j) → kd_os p i d = kd_os q i d := by
  intro d
  induction d with
  | zero => intro i _; rfl
  | succ d ih =>
    intro i h
    show _ + kd_os p (i + 1) d = _ + kd_os q (i + 1) d
    rw [h i (Nat.le_refl i), ih (fun j hj => h j (by omega))]
theorem kd_os_z : ∀ {d i : Nat}, kd_os 0 i d = 0 := by
  intro d
  induction d with
  | zero => intro i; rfl
  | succ d ih =>
    intro i
    show (Nat.testBit 0 i).toNat + kd_os 0 (i + 1) d = 0
    rw [ih, Nat.zero_testBit]
    rfl
theorem kd_os_mk {P : Nat → Bool} : ∀ {l : List Nat} {i d : Nat}, l.length ≤ d → kd_os (kd_mk P i l) i d = (l.filter P).length := by
  intro l
  induction l with
  | nil => intro i d _; exact kd_os_z
  | cons c l ih =>
    intro i d h
    rw [List.length_cons] at h
    obtain ⟨k, rfl⟩ : ∃ k, d = k + 1 := ⟨d - 1, by omega⟩
    show ((kd_mk P i (c :: l)).testBit i).toNat + kd_os (kd_mk P i (c :: l)) (i + 1) k = _
    have h1 : (kd_mk P i (c :: l)).testBit i = P c := kd_mk_at (pre := [])
    have h2 : kd_os (kd_mk P i (c :: l)) (i + 1) k = kd_os (kd_mk P (i + 1) l) (i + 1) k := by
      apply kd_os_c
      intro j hj
      show (_ ||| kd_mk P (i + 1) l).testBit j = _
      rw [Nat.testBit_or, kd_cp, decide_eq_false (by omega), Bool.and_false, Bool.false_or]
    rw [h1, h2, ih (by omega)]
    cases e : P c
    · rw [List.filter_cons_of_neg (by rw [e]; decide)]; exact Nat.zero_add _
    · rw [List.filter_cons_of_pos e, List.length_cons]; exact Nat.add_comm _ _
/-- what all have in common -/
def kd_an (l : List Nat) : Nat := l.foldl (fun a c => a &&& c) 127
theorem kd_anT : ∀ {l : List Nat} {a j : Nat}, (l.foldl (fun a c => a &&& c) a).testBit j = true ↔ a.testBit j = true ∧ ∀ x, x ∈ l → x.testBit j = true := by
  intro l
  induction l with
  | nil => intro a j; exact ⟨fun h => ⟨h, fun x hx => absurd hx (List.not_mem_nil)⟩, fun h => h.1⟩
  | cons c l ih =>
    intro a j
    rw [List.foldl_cons, ih, Nat.testBit_and, Bool.and_eq_true]
    constructor
    · intro h
      refine ⟨h.1.1, fun x hx => ?_⟩
      rcases List.mem_cons.mp hx with rfl | hx
      · exact h.1.2
      · exact h.2 x hx
    · intro h
      exact ⟨⟨h.1, h.2 c List.mem_cons_self⟩, fun x hx => h.2 x (List.mem_cons_of_mem _ hx)⟩
theorem kd_anL : ∀ {l : List Nat} {a : Nat}, a < 128 → l.foldl (fun a c => a &&& c) a < 128 := by
  intro l
  induction l with
  | nil => intro a h; exact h
  | cons c l ih => intro a h; exact ih (kd_and_lt c h)
theorem kd_127 (j : Nat) : Nat.testBit 127 j = decide (j < 7) := Nat.testBit_two_pow_sub_one 7 j
theorem kd_an_iff {l : List Nat} {j : Nat} : (kd_an l).testBit j = true ↔ j < 7 ∧ ∀ x, x ∈ l → x.testBit j = true := by
  rw [kd_an, kd_anT, kd_127, decide_eq_true_iff]
theorem kd_an_lt (l : List Nat) : kd_an l < 128 := kd_anL (by decide)
end
section
/-! the component's rows: find, put, take -/
/-- all four rows hold sorted lists -/
def kd_XS (sz cb : Nat → Int32) (L : Nat → List Nat) : Prop := ∀ e, e < 4 → kd_RW sz cb e (L e) ∧ (L e).Pairwise (· < ·)
def kd_uL (L : Nat → List Nat) (e : Nat) (l : List Nat) : Nat → List Nat := fun k => if k = e then l else L k
theorem kd_uL_s (L : Nat → List Nat) (e : Nat) (l : List Nat) : kd_uL L e l e = l := if_pos rfl
theorem kd_uL_n {L : Nat → List Nat} {e k : Nat} {l : List Nat} (h : k ≠ e) : kd_uL L e l k = L k := if_neg h
/-- one row changes, the cells outside it stay -/
theorem kd_XSu {sz cb cb' : Nat → Int32} {L : Nat → List Nat} {e : Nat} {l : List Nat} (H : kd_XS sz cb L) (h8 : l.length ≤ 8) (hx : ∀ x, x ∈ l → x < 128) (hS : kd_SG cb' (e * 8) l) (hp : l.Pairwise (· < ·)) (hf : ∀ k, (k < e * 8 ∨ e * 8 + 8 ≤ k) → cb' k = cb k) : kd_XS (upd sz e (nI l.length)) cb' (kd_uL L e l) := by
  intro k hk
  by_cases h : k = e
  · subst h
    rw [kd_uL_s]
    exact ⟨⟨pk_us, h8, hx, hS⟩, hp⟩
  · rw [kd_uL_n h]
    obtain ⟨⟨a, b, c, d⟩, p⟩ := H k hk
    exact ⟨⟨(pk_un h).trans a, b, c, kd_SGc (fun j h1 h2 => hf j (by omega)) d⟩, p⟩
theorem kd_last {l : List Nat} {i : Nat} (h : l.length = i + 1) : ∃ p x, l = p ++ [x] ∧ p.length = i := by
  rcases List.eq_nil_or_concat l with z | ⟨p, x, z⟩
  · rw [z] at h; exact absurd h (by simp)
  · rw [List.concat_eq_append] at z
    refine ⟨p, x, z, ?_⟩
    rw [z, List.length_append] at h
    simpa using h
section
variable {fm fw : Int32} {sz cb md ck ho wc wl : Nat → Int32}
theorem kd_find_l {post : Int32 → Prop} {x : Int32} {e : Nat} {l : List Nat} (H : kd_RW sz cb e l) (he : e < 4) (hf : ∀ pre c suf, l = pre ++ c :: suf → nI c = x → post (nI pre.length)) (hn : (∀ y, y ∈ l → ¬ nI y = x) → post (-1)) : ∀ (suf pre : List Nat) (i : Nat), l = pre ++ suf → pre.length = i → (∀ y, y ∈ pre → ¬ nI y = x) → wX_find_2 post (nI e) x fm fw sz cb md ck ho wc wl (suf.length + 1) (nI i) := by
  obtain ⟨hv, hs, h8⟩ := kd_rw0 H he
  intro suf
  induction suf with
  | nil =>
    intro pre i hl hi hp
    rw [List.append_nil] at hl
    have h1 : l.length = i := by rw [hl]; exact hi
    exact And.intro hv (pk_le l.length i (fun _ => hn (by rw [hl]; exact hp)) (fun z => absurd z (by omega)) hs)
  | cons c suf ih =>
    intro pre i hl hi hp
    obtain ⟨h1, h2, h3, h4⟩ := kd_rw1 H he hl hi
    refine And.intro hv (pk_le l.length i (fun z => absurd z (by omega)) (fun _ => And.intro h3 ?_) hs)
    by_cases hx : nI c = x
    · exact br_t (h4.trans hx) (hi ▸ hf pre c suf hl hx)
    · refine br_f (fun z => hx (h4.symm.trans z)) (nm_r (nI_1 i) (ih (pre ++ [c]) (i + 1) (by rw [hl]; simp) (by simp [hi]) ?_))
      intro y hy
      rcases List.mem_append.mp hy with z | z
      · exact hp y z
      · rw [List.mem_singleton.mp z]; exact hx
theorem kd_find {post : Int32 → Prop} {x : Int32} {e : Nat} {l : List Nat} (H : kd_RW sz cb e l) (he : e < 4) (hf : ∀ pre c suf, l = pre ++ c :: suf → nI c = x → post (nI pre.length)) (hn : (∀ y, y ∈ l → ¬ nI y = x) → post (-1)) : wpX_find post (fm, fw, sz, cb, md, ck, ho, wc, wl) (nI e) x :=
  ⟨l.length + 1, kd_find_l H he hf hn l [] 0 rfl rfl (fun y hy => absurd hy List.not_mem_nil)⟩
theorem kd_put98 {post : Int32 → SX → Prop} {e c i m : Nat} (he : e < 4) (hc : c < 128) (hi : i < 8) (hm : m < 8) (hs : sz e = nI m) (h : post 1 (fm, fw, upd sz e (nI (m + 1)), upd cb (e * 8 + i) (nI c), md, ck, ho, wc, wl)) : wX_put_98 post (nI e) (nI c) (nI i) fm fw sz cb md ck ho wc wl := by
  have hv : vp_in (nI e) 4 := vp_in_nI he (by decide)
  refine And.intro (kd_ix_in he hi) (nm_r (e' := upd cb (e * 8 + i) (nI c)) ?_ (And.intro hv (And.intro hv (nm_r (e' := upd sz e (nI (m + 1))) ?_ h))))
  · rw [kd_ix_cl he hi, kd_nb2 hc]
  · rw [nI_clamp (by omega), hs, nI_1, kd_nb2 (by omega)]
theorem kd_put_l {post : Int32 → SX → Prop} {e c m : Nat} {L : List Nat} {cb0 : Nat → Int32} (he : e < 4) (hc : c < 128) (hm : m < 8) (hs : sz e = nI m) (hL : L.length = m) (hx : ∀ x, x ∈ L → x < 128) (srt : L.Pairwise (· < ·)) (hn : ¬ c ∈ L)
    (K : ∀ cb' l1 l2, L = l1 ++ l2 → (∀ x, x ∈ l1 → x < c) → (∀ x, x ∈ l2 → c < x) → kd_SG cb' (e * 8) (l1 ++ c :: l2) → (∀ k, (k < e * 8 ∨ e * 8 + 8 ≤ k) → cb' k = cb0 k) → post 1 (fm, fw, upd sz e (nI (m + 1)), cb', md, ck, ho, wc, wl)) :
    ∀ (i : Nat) (pre suf : List Nat) (cb : Nat → Int32), L = pre ++ suf → pre.length = i → (∀ x, x ∈ suf → c < x) → kd_SG cb (e * 8) pre → kd_SG cb (e * 8 + i + 1) suf → (∀ k, (k < e * 8 ∨ e * 8 + 8 ≤ k) → cb k = cb0 k) → wX_put_47 post (nI e) (nI c) fm fw (i + 1) (nI i) sz cb md ck ho wc wl := by
  have stop : ∀ (i : Nat) (pre suf : List Nat) (cb : Nat → Int32), L = pre ++ suf → pre.length = i → (∀ x, x ∈ suf → c < x) → (∀ x, x ∈ pre → x < c) → kd_SG cb (e * 8) pre → kd_SG cb (e * 8 + i + 1) suf → (∀ k, (k < e * 8 ∨ e * 8 + 8 ≤ k) → cb k = cb0 k) → wX_put_98 post (nI e) (nI c) (nI i) fm fw sz cb md ck ho wc wl := by
    intro i pre suf cb hl hi h1 h2 s1 s2 hf
    have hlen : i ≤ m := by rw [← hL, hl, List.length_append]; omega
    refine kd_put98 he hc (by omega) hm hs (K _ pre suf hl h2 h1 ?_ ?_)
    · rw [kd_SGa, hi]
      exact ⟨kd_SGu (by omega) s1, pk_us, kd_SGu (by omega) s2⟩
    · intro k hk
      exact (pk_un (by omega)).trans (hf k hk)
  intro i
  induction i with
  | zero =>
    intro pre suf cb hl hi h1 s1 s2 hf
    have hp : pre = [] := List.length_eq_zero_iff.mp hi
    refine br_t (by decide) (stop 0 pre suf cb hl hi h1 (fun x hx => ?_) s1 s2 hf)
    rw [hp] at hx
    exact absurd hx List.not_mem_nil
  | succ i ih =>
    intro pre suf cb hl hi h1 s1 s2 hf
    obtain ⟨p, x, hp, hpi⟩ := kd_last hi
    have hlen : i + 1 ≤ m := by rw [← hL, hl, List.length_append]; omega
    have hxL : x ∈ L := by rw [hl, hp]; simp
    have hx128 : x < 128 := hx x hxL
    have e1 : nI e * 8 + nI (i + 1) - 1 = nI (e * 8 + i) := by rw [kd_ix, ← Nat.add_assoc, nI_pred]
    have hv1 : vp_in (nI e * 8 + nI (i + 1) - 1) 32 := by rw [e1]; exact vp_in_nI (by omega) (by decide)
    have s1' := s1
    rw [hp, kd_SGa, hpi] at s1'
    have hcx : cb (nI e * 8 + nI (i + 1) - 1).toNatClampNeg = nI x := by
      rw [e1, nI_clamp (by omega)]; exact s1'.2.1
    refine br_f (nI_nle (by omega) (by omega)) (And.intro hv1 (pk_le x c ?_ ?_ hcx))
    · intro hle
      refine stop (i + 1) pre suf cb hl hi h1 (fun y hy => ?_) s1 s2 hf
      have hxc : x < c := Nat.lt_of_le_of_ne hle (fun z => hn (z ▸ hxL))
      rw [hp] at hy
      rcases List.mem_append.mp hy with z | z
      · have srt2 := srt
        rw [hl, hp] at srt2
        have := ((List.pairwise_append.mp (List.pairwise_append.mp srt2).1).2.2) y z x (List.mem_singleton.mpr rfl)
        omega
      · rw [List.mem_singleton.mp z]; exact hxc
    · intro hgt
      refine And.intro hv1 (And.intro (kd_ix_in he (by omega)) (nm_r (e' := upd cb (e * 8 + (i + 1)) (nI x)) ?_ (nm_r (pk_m1 i) ?_)))
      · rw [kd_ix_cl he (by omega), hcx, kd_nb hx128]
      · refine ih p (x :: suf) _ (by rw [hl, hp]; simp) hpi ?_ (kd_SGu (by omega) s1'.1) ⟨pk_us, kd_SGu (by omega) s2⟩ ?_
        · intro y hy
          rcases List.mem_cons.mp hy with rfl | hy
          · exact hgt
          · exact h1 y hy
        · intro k hk
          exact (pk_un (by omega)).trans (hf k hk)
theorem kd_put {post : Int32 → SX → Prop} {e c : Nat} {L : Nat → List Nat} (H : kd_XS sz cb L) (he : e < 4) (hc : c < 128)
    (h1 : c ∈ L e → post 1 (fm, fw, sz, cb, md, ck, ho, wc, wl)) (h2 : ¬ c ∈ L e → 8 ≤ (L e).length → post 0 (fm, fw, sz, cb, md, ck, ho, wc, wl))
    (h3 : ¬ c ∈ L e → (L e).length < 8 → ∀ sz' cb' l', (∀ x, x ∈ l' ↔ x = c ∨ x ∈ L e) → kd_XS sz' cb' (kd_uL L e l') → post 1 (fm, fw, sz', cb', md, ck, ho, wc, wl)) : wpX_put post (fm, fw, sz, cb, md, ck, ho, wc, wl) (nI e) (nI c) := by
  obtain ⟨HR, srt⟩ := H e he
  obtain ⟨hv, hs, h8⟩ := kd_rw0 HR he
  unfold wpX_put
  dsimp only
  refine kd_isE1 he (br_f (by decide) (kd_isC1 hc (br_f (by decide) (kd_find HR he ?_ ?_))))
  · intro pre y suf hl hy
    have hy128 := (kd_rw1 HR he hl rfl).2.1
    have hlt := (kd_rw1 HR he hl rfl).1
    have : y = c := (nI_eq (by omega) (by omega)).mp hy
    refine br_f (nI_pos (by omega)) (h1 ?_)
    rw [hl, this]; simp
  · intro hy
    have hn : ¬ c ∈ L e := fun z => hy c z rfl
    refine br_t (by decide) (And.intro hv (pk_lt (L e).length 8 ?_ (fun z => h2 hn z) hs))
    intro hlt
    refine And.intro hv (nm_r hs ⟨(L e).length + 1, kd_put_l he hc hlt HR.1 rfl HR.2.2.1 srt hn ?_ (L e).length (L e) [] cb (by simp) rfl (fun x hx => absurd hx List.not_mem_nil) HR.2.2.2 trivial (fun k _ => rfl)⟩)
    intro cb' l1 l2 hl a1 a2 hS hf
    have hlen : (l1 ++ c :: l2).length = (L e).length + 1 := by rw [hl]; simp; omega
    have srt2 := srt
    rw [hl] at srt2
    have HX := kd_XSu (e := e) (l := l1 ++ c :: l2) H (by omega) ?_ hS ?_ hf
    · rw [hlen] at HX
      refine h3 hn hlt _ _ (l1 ++ c :: l2) (fun x => ?_) HX
      rw [hl]; simp only [List.mem_append, List.mem_cons]
      constructor
      · intro z; rcases z with z | z | z
        · exact Or.inr (Or.inl z)
        · exact Or.inl z
        · exact Or.inr (Or.inr z)
      · intro z; rcases z with z | z | z
        · exact Or.inr (Or.inl z)
        · exact Or.inl z
        · exact Or.inr (Or.inr z)
    · intro x hx
      rcases List.mem_append.mp hx with z | z
      · exact HR.2.2.1 x (by rw [hl]; exact List.mem_append_left _ z)
      · rcases List.mem_cons.mp z with z | z
        · rw [z]; exact hc
        · exact HR.2.2.1 x (by rw [hl]; exact List.mem_append_right _ z)
    · rw [List.pairwise_append] at srt2 ⊢
      refine ⟨srt2.1, List.pairwise_cons.mpr ⟨a2, srt2.2.1⟩, fun x hx y hy => ?_⟩
      rcases List.mem_cons.mp hy with z | z
      · rw [z]; exact a1 x hx
      · exact srt2.2.2 x hx y z
theorem kd_take_l {post : Int32 → SX → Prop} {e : Nat} {L : List Nat} {cb0 : Nat → Int32} (he : e < 4) (hm : L.length < 8) (hs : sz e = nI L.length) (hx : ∀ x, x ∈ L → x < 128)
    (K : ∀ cb', kd_SG cb' (e * 8) L → (∀ k, (k < e * 8 ∨ e * 8 + 8 ≤ k) → cb' k = cb0 k) → post 1 (fm, fw, sz, cb', md, ck, ho, wc, wl)) :
    ∀ (suf pre : List Nat) (i : Nat) (cb : Nat → Int32), L = pre ++ suf → pre.length = i → kd_SG cb (e * 8) pre → kd_SG cb (e * 8 + i + 1) suf → (∀ k, (k < e * 8 ∨ e * 8 + 8 ≤ k) → cb k = cb0 k) → wX_take_38 post (nI e) fm fw (suf.length + 1) (nI i) sz cb md ck ho wc wl := by
  have hv : vp_in (nI e) 4 := vp_in_nI he (by decide)
  have hs' : sz (nI e).toNatClampNeg = nI L.length := by rw [nI_clamp (by omega)]; exact hs
  intro suf
  induction suf with
  | nil =>
    intro pre i cb hl hi s1 s2 hf
    rw [List.append_nil] at hl
    have h1 : L.length = i := by rw [hl]; exact hi
    exact And.intro hv (pk_le L.length i (fun _ => K cb (by rw [hl]; exact s1) hf) (fun z => absurd z (by omega)) hs')
  | cons c suf ih =>
    intro pre i cb hl hi s1 s2 hf
    have h1 : i < L.length := by rw [hl, List.length_append, List.length_cons]; omega
    have hc : c < 128 := hx c (by rw [hl]; simp)
    have e1 : nI e * 8 + nI i + 1 = nI (e * 8 + i + 1) := by rw [kd_ix, nI_1]
    have hcx : cb (nI e * 8 + nI i + 1).toNatClampNeg = nI c := by rw [e1, nI_clamp (by omega)]; exact s2.1
    refine And.intro hv (pk_le L.length i (fun z => absurd z (by omega)) (fun _ => And.intro ?_ (And.intro (kd_ix_in he (by omega)) (nm_r (e' := upd cb (e * 8 + i) (nI c)) ?_ (nm_r (nI_1 i) ?_)))) hs')
    · rw [e1]; exact vp_in_nI (by omega) (by decide)
    · rw [kd_ix_cl he (by omega), hcx, kd_nb hc]
    · refine ih (pre ++ [c]) (i + 1) _ (by rw [hl]; simp) (by simp [hi]) ?_ (kd_SGu (by omega) s2.2) ?_
      · rw [kd_SGa, hi]
        exact ⟨kd_SGu (by omega) s1, pk_us, trivial⟩
      · intro k hk
        exact (pk_un (by omega)).trans (hf k hk)
theorem kd_take {post : Int32 → SX → Prop} {e : Nat} {x : Int32} {L : Nat → List Nat} (H : kd_XS sz cb L) (he : e < 4)
    (h0 : (∀ y, y ∈ L e → ¬ nI y = x) → post 0 (fm, fw, sz, cb, md, ck, ho, wc, wl))
    (h1 : ∀ c, c ∈ L e → x = nI c → ∀ sz' cb' l', (∀ y, y ∈ l' ↔ y ≠ c ∧ y ∈ L e) → kd_XS sz' cb' (kd_uL L e l') → post 1 (fm, fw, sz', cb', md, ck, ho, wc, wl)) : wpX_take post (fm, fw, sz, cb, md, ck, ho, wc, wl) (nI e) x := by
  obtain ⟨HR, srt⟩ := H e he
  obtain ⟨hv, hs, h8⟩ := kd_rw0 HR he
  unfold wpX_take
  dsimp only
  refine kd_isE1 he (br_f (by decide) (kd_find HR he ?_ ?_))
  · intro pre c suf hl hx
    obtain ⟨hlt, hc, _, _⟩ := kd_rw1 HR he hl rfl
    have hlen : (L e).length = (pre ++ suf).length + 1 := by rw [hl]; simp; omega
    have srt2 := srt
    rw [hl, List.pairwise_append, List.pairwise_cons] at srt2
    have hS := HR.2.2.2
    rw [hl, kd_SGa] at hS
    refine br_t (nI_pos' (by omega)) (And.intro hv (And.intro hv (nm_r (e' := upd sz e (nI (pre ++ suf).length)) ?_ ⟨suf.length + 1, kd_take_l (L := pre ++ suf) he (by omega) pk_us ?_ ?_ suf pre pre.length cb rfl rfl hS.1 hS.2.2 (fun k _ => rfl)⟩)))
    · rw [nI_clamp (by omega), HR.1, hlen, nI_pred, kd_nb2 (by omega)]
    · intro y hy
      refine HR.2.2.1 y ?_
      rw [hl]
      rcases List.mem_append.mp hy with z | z
      · exact List.mem_append_left _ z
      · exact List.mem_append_right _ (List.mem_cons_of_mem _ z)
    · intro cb' hS' hf
      refine h1 c (by rw [hl]; simp) hx.symm _ _ (pre ++ suf) (fun y => ?_) (kd_XSu H (by omega) ?_ hS' ?_ hf)
      · rw [hl]
        constructor
        · intro z
          rcases List.mem_append.mp z with z | z
          · have := srt2.2.2 y z c List.mem_cons_self
            exact ⟨by omega, List.mem_append_left _ z⟩
          · have := srt2.2.1.1 y z
            exact ⟨by omega, List.mem_append_right _ (List.mem_cons_of_mem _ z)⟩
        · intro z
          rcases List.mem_append.mp z.2 with w | w
          · exact List.mem_append_left _ w
          · rcases List.mem_cons.mp w with w | w
            · exact absurd w z.1
            · exact List.mem_append_right _ w
      · intro y hy
        refine HR.2.2.1 y ?_
        rw [hl]
        rcases List.mem_append.mp hy with z | z
        · exact List.mem_append_left _ z
        · exact List.mem_append_right _ (List.mem_cons_of_mem _ z)
      · rw [List.pairwise_append]
        exact ⟨srt2.1, srt2.2.1.2, fun a ha b hb => srt2.2.2 a ha b (List.mem_cons_of_mem _ hb)⟩
  · intro hy
    exact br_f (by decide) (h0 hy)
end
end
section
/-! the component's made cubes: isMade, store, quotientBy -/
def kd_MD (fm : Int32) (md : Nat → Int32) (M : List Nat) : Prop := fm = nI M.length ∧ M.length ≤ 8 ∧ (∀ x, x ∈ M → x < 128) ∧ kd_SG md 0 M
theorem kd_md1 {fm : Int32} {md : Nat → Int32} {M pre suf : List Nat} {c i : Nat} (H : kd_MD fm md M) (hl : M = pre ++ c :: suf) (hi : pre.length = i) : i < M.length ∧ c < 128 ∧ vp_in (nI i) 8 ∧ md (nI i).toNatClampNeg = nI c := by
  have h8 := H.2.1
  have hi8 : i < M.length := by
    rw [hl, List.length_append, List.length_cons]; omega
  refine ⟨hi8, H.2.2.1 c (by rw [hl]; simp), vp_in_nI (by omega) (by decide), ?_⟩
  rw [nI_clamp (by omega)]
  have := H.2.2.2
  rw [hl, kd_SGa, hi, Nat.zero_add] at this
  exact this.2.1
theorem kd_md0 (md : Nat → Int32) : kd_MD 0 md [] := ⟨rfl, by decide, fun x hx => absurd hx List.not_mem_nil, trivial⟩
theorem kd_mdp {fm : Int32} {md : Nat → Int32} {M : List Nat} {x : Nat} (H : kd_MD fm md M) (h : M.length < 8) (hx : x < 128) : kd_MD (nI (M.length + 1)) (upd md M.length (nI x)) (M ++ [x]) := by
  refine ⟨by simp, by simp; omega, fun y hy => ?_, ?_⟩
  · rcases List.mem_append.mp hy with z | z
    · exact H.2.2.1 y z
    · rw [List.mem_singleton.mp z]; exact hx
  · rw [kd_SGa, Nat.zero_add]
    exact ⟨kd_SGu (by omega) H.2.2.2, pk_us, trivial⟩
/-- a branch on 'all letters of c are in o' -/
theorem kd_brs {c o : Nat} {A B : Prop} (hc : c < 128) (f : kd_sub c o = true → A) (g : kd_sub c o = false → B) : (nI c &&& (nI o ^^^ (-1)) = 0 → A) ∧ (¬ nI c &&& (nI o ^^^ (-1)) = 0 → B) := by
  rw [kd_dfI]
  have := kd_df_lt o hc
  refine pk_eq (kd_df c o) 0 (fun z => f ?_) (fun z => g ?_)
  · rw [kd_sub, z]; rfl
  · rw [kd_sub]; exact beq_false_of_ne z
/-- the quotient of a list by a cube -/
def kd_qb (c : Nat) (l : List Nat) : List Nat := (l.filter (kd_sub c)).map (fun o => kd_df o c)
theorem kd_qb_t {c o : Nat} {l : List Nat} (h : kd_sub c o = true) : kd_qb c (o :: l) = kd_df o c :: kd_qb c l := by
  unfold kd_qb; rw [List.filter_cons_of_pos h]; rfl
theorem kd_qb_f {c o : Nat} {l : List Nat} (h : kd_sub c o = false) : kd_qb c (o :: l) = kd_qb c l := by
  unfold kd_qb; rw [List.filter_cons_of_neg (by rw [h]; decide)]
section
variable {fm fw : Int32} {sz cb md ck ho wc wl : Nat → Int32}
theorem kd_isMade_l {post : Int32 → Prop} {x : Nat} {M : List Nat} (H : kd_MD fm md M) (hx : x < 128) : ∀ (suf pre : List Nat) (i : Nat), M = pre ++ suf → pre.length = i → post (kd_bI (decide (x ∈ suf))) → wX_isMade_2 post (nI x) fm fw sz cb md ck ho wc wl (suf.length + 1) (nI i) := by
  have h8 := H.2.1
  intro suf
  induction suf with
  | nil =>
    intro pre i hl hi hp
    rw [List.append_nil] at hl
    have h1 : M.length = i := by rw [hl]; exact hi
    exact pk_le M.length i (fun _ => hp) (fun z => absurd z (by omega)) H.1
  | cons c suf ih =>
    intro pre i hl hi hp
    obtain ⟨h1, h2, h3, h4⟩ := kd_md1 H hl hi
    refine pk_le M.length i (fun z => absurd z (by omega)) (fun _ => And.intro h3 (pk_eq c x ?_ ?_ h4)) H.1
    · intro z
      rw [decide_eq_true (by rw [z]; exact List.mem_cons_self)] at hp
      exact hp
    · intro z
      refine nm_r (nI_1 i) (ih (pre ++ [c]) (i + 1) (by rw [hl]; simp) (by simp [hi]) ?_)
      have e : decide (x ∈ c :: suf) = decide (x ∈ suf) := by
        rw [decide_eq_decide]
        constructor
        · intro w; rcases List.mem_cons.mp w with w | w
          · exact absurd w.symm z
          · exact w
        · exact List.mem_cons_of_mem c
      rw [e] at hp
      exact hp
theorem kd_isMade {post : Int32 → Prop} {x : Nat} {M : List Nat} (H : kd_MD fm md M) (hx : x < 128) (h : post (kd_bI (decide (x ∈ M)))) : wpX_isMade post (fm, fw, sz, cb, md, ck, ho, wc, wl) (nI x) :=
  ⟨M.length + 1, kd_isMade_l H hx M [] 0 rfl rfl h⟩
theorem kd_uL_uL (L : Nat → List Nat) (e : Nat) (l m : List Nat) : kd_uL (kd_uL L e l) e m = kd_uL L e m := by
  funext k
  by_cases h : k = e
  · rw [h, kd_uL_s, kd_uL_s]
  · rw [kd_uL_n h, kd_uL_n h, kd_uL_n h]
theorem kd_store_l {post : Int32 → SX → Prop} {e : Nat} {L : Nat → List Nat} {M : List Nat} (he : e < 4) (HM : kd_MD fm md M) (srt : M.Pairwise (· < ·))
    (K : ∀ sz' cb', kd_XS sz' cb' (kd_uL L e M) → post (nI M.length) (fm, fw, sz', cb', md, ck, ho, wc, wl)) :
    ∀ (suf pre : List Nat) (i : Nat) (sz cb : Nat → Int32), M = pre ++ suf → pre.length = i → kd_XS sz cb (kd_uL L e pre) → wX_store_9 post (nI e) (suf.length + 1) (nI i) fm fw sz cb md ck ho wc wl := by
  have h8 := HM.2.1
  have hv : vp_in (nI e) 4 := vp_in_nI he (by decide)
  intro suf
  induction suf with
  | nil =>
    intro pre i sz cb hl hi HX
    rw [List.append_nil] at hl
    have h1 : M.length = i := by rw [hl]; exact hi
    rw [← hl] at HX
    have hs := (HX e he).1.1
    rw [kd_uL_s] at hs
    have hs' : sz (nI e).toNatClampNeg = nI M.length := by rw [nI_clamp (by omega)]; exact hs
    refine pk_le M.length i (fun _ => And.intro hv ?_) (fun z => absurd z (by omega)) HM.1
    rw [hs']
    exact K sz cb HX
  | cons c suf ih =>
    intro pre i sz cb hl hi HX
    obtain ⟨h1, h2, h3, h4⟩ := kd_md1 HM hl hi
    have srt2 := srt
    rw [hl, List.pairwise_append, List.pairwise_cons] at srt2
    have hn : ¬ c ∈ pre := fun z => absurd (srt2.2.2 c z c List.mem_cons_self) (Nat.lt_irrefl c)
    refine pk_le M.length i (fun z => absurd z (by omega)) (fun _ => And.intro h3 ?_) HM.1
    rw [h4]
    refine kd_put HX he h2 (fun z => ?_) (fun _ z => ?_) (fun _ _ sz' cb' l' hl' HX' => ?_)
    · rw [kd_uL_s] at z; exact absurd z hn
    · rw [kd_uL_s] at z; exact absurd z (by omega)
    · have hs' := (HX' e he).2
      rw [kd_uL_s] at hs'
      rw [kd_uL_s] at hl'
      have e1 : l' = pre ++ [c] := by
        refine kd_uni hs' ?_ ?_
        · rw [List.pairwise_append]
          exact ⟨srt2.1, List.pairwise_singleton _ _, fun a ha b hb => by rw [List.mem_singleton.mp hb]; exact srt2.2.2 a ha c List.mem_cons_self⟩
        · intro x
          rw [hl' x, List.mem_append, List.mem_singleton]
          exact Or.comm
      rw [kd_uL_uL, e1] at HX'
      exact nm_r (nI_1 i) (ih (pre ++ [c]) (i + 1) sz' cb' (by rw [hl]; simp) (by simp [hi]) HX')
theorem kd_store {post : Int32 → SX → Prop} {e : Nat} {L : Nat → List Nat} {M : List Nat} (H : kd_XS sz cb L) (he : e < 4) (HM : kd_MD fm md M) (srt : M.Pairwise (· < ·))
    (K : ∀ sz' cb', kd_XS sz' cb' (kd_uL L e M) → post (nI M.length) (fm, fw, sz', cb', md, ck, ho, wc, wl)) : wpX_store post (fm, fw, sz, cb, md, ck, ho, wc, wl) (nI e) := by
  have hv : vp_in (nI e) 4 := vp_in_nI he (by decide)
  refine And.intro hv (nm_r (e' := upd sz e (nI 0)) ?_ ⟨M.length + 1, kd_store_l he HM srt K M [] 0 _ cb rfl rfl ?_⟩)
  · rw [nI_clamp (by omega)]; exact congrArg (upd sz e) (kd_nb (c := 0) (by decide))
  · exact kd_XSu (l := []) H (by decide) (fun x hx => absurd hx List.not_mem_nil) trivial List.Pairwise.nil (fun k _ => rfl)
theorem kd_qb_l {post : SX → Prop} {f c : Nat} {l : List Nat} (H : kd_RW sz cb f l) (hf : f < 4) (hc : c < 128) (K : ∀ fm' md', kd_MD fm' md' (kd_qb c l) → post (fm', fw, sz, cb, md', ck, ho, wc, wl)) :
    ∀ (suf pre : List Nat) (i : Nat) (M : List Nat) (fm : Int32) (md : Nat → Int32), l = pre ++ suf → pre.length = i → M.length ≤ i → kd_MD fm md M → kd_qb c l = M ++ kd_qb c suf → wX_quotientBy_7 post (nI f) (nI c) fw (suf.length + 1) (nI i) fm sz cb md ck ho wc wl := by
  obtain ⟨hv, hs, h8⟩ := kd_rw0 H hf
  intro suf
  induction suf with
  | nil =>
    intro pre i M fm md hl hi hM HM hq
    rw [List.append_nil] at hl
    have h1 : l.length = i := by rw [hl]; exact hi
    have hq' : kd_qb c l = M := by rw [hq]; exact List.append_nil M
    exact And.intro hv (pk_le l.length i (fun _ => K fm md (by rw [hq']; exact HM)) (fun z => absurd z (by omega)) hs)
  | cons o suf ih =>
    intro pre i M fm md hl hi hM HM hq
    obtain ⟨h1, h2, h3, h4⟩ := kd_rw1 H hf hl hi
    refine And.intro hv (pk_le l.length i (fun z => absurd z (by omega)) (fun _ => And.intro h3 (nm_r h4 (kd_brs hc ?_ ?_))) hs)
    · intro hsub
      rw [kd_qb_t hsub] at hq
      have hfm : fm.toNatClampNeg = M.length := by rw [HM.1, nI_clamp (by omega)]
      refine And.intro (by rw [HM.1]; exact vp_in_nI (by omega) (by decide)) (nm_r (e' := upd md M.length (nI (kd_df o c))) ?_ (nm_r (e' := nI (M.length + 1)) ?_ (nm_r (nI_1 i) ?_)))
      · rw [hfm, kd_dfI, kd_nb2 (kd_df_lt c h2)]
      · rw [HM.1, nI_1]
      · exact ih (pre ++ [o]) (i + 1) (M ++ [kd_df o c]) _ _ (by rw [hl]; simp) (by simp [hi]) (by simp; omega) (kd_mdp HM (by omega) (kd_df_lt c h2)) (by rw [hq]; simp)
    · intro hsub
      rw [kd_qb_f hsub] at hq
      exact nm_r (nI_1 i) (ih (pre ++ [o]) (i + 1) M fm md (by rw [hl]; simp) (by simp [hi]) (by omega) HM hq)
theorem kd_quotientBy {post : SX → Prop} {f c : Nat} {l : List Nat} (H : kd_RW sz cb f l) (hf : f < 4) (hc : c < 128) (K : ∀ fm' md', kd_MD fm' md' (kd_qb c l) → post (fm', fw, sz, cb, md', ck, ho, wc, wl)) : wpX_quotientBy post (fm, fw, sz, cb, md, ck, ho, wc, wl) (nI f) (nI c) :=
  ⟨l.length + 1, kd_qb_l H hf hc K l [] 0 [] 0 md rfl rfl (Nat.le_refl 0) (kd_md0 md) rfl⟩
end
end
section
/-! the component's quotient and remainder -/
def kd_lt (l : List Nat) : Nat := l.foldl (fun a c => a ||| c) 0
/-- x is kept in the quotient of lf by lg -/
def kd_gd (lf lg : List Nat) (x : Nat) : Bool := lg.all (fun g => decide ((x ||| g) ∈ lf))
def kd_G (lf lg : List Nat) (x : Nat) : Bool := (x &&& kd_lt lg == 0) && kd_gd lf lg x
def kd_qt (lf lg : List Nat) : List Nat := (kd_qb (lg.headD 0) lf).filter (kd_G lf lg)
/-- o is a product of a cube of lg with one of M -/
def kd_pr (lg M : List Nat) (o : Nat) : Bool := lg.any (fun g => kd_sub g o && decide (kd_df o g ∈ M))
def kd_rm (lf lg M : List Nat) : List Nat := lf.filter (fun o => !kd_pr lg M o)
theorem kd_lt_lt : ∀ {l : List Nat} {a : Nat}, a < 128 → (∀ x, x ∈ l → x < 128) → l.foldl (fun a c => a ||| c) a < 128 := by
  intro l
  induction l with
  | nil => intro a h _; exact h
  | cons c l ih => intro a h hl; exact ih (kd_or_lt h (hl c List.mem_cons_self)) (fun x hx => hl x (List.mem_cons_of_mem _ hx))
section
variable {fm fw : Int32} {sz cb md ck ho wc wl : Nat → Int32}
theorem kd_q92 {post : SX → Prop} {J : Int32 → Int32 → (Nat → Int32) → (Nat → Int32) → (Nat → Int32) → (Nat → Int32) → (Nat → Int32) → (Nat → Int32) → (Nat → Int32) → Prop} {f g x : Nat} {lf lg : List Nat} {x3 x4 x5 : Int32} (RF : kd_RW sz cb f lf) (RG : kd_RW sz cb g lg) (hf : f < 4) (hg : g < 4) (hx : x < 128) :
    ∀ (suf pre : List Nat) (i : Nat) (b : Bool), lg = pre ++ suf → pre.length = i → wX_quotient_148 post J (nI f) (nI g) x3 x4 x5 (nI x) (kd_bI (b && kd_gd lf suf x)) fm fw sz cb md ck ho wc wl → wX_quotient_92 post J (nI f) (nI g) x3 x4 x5 (nI x) fm fw sz cb md ck ho wc wl (suf.length + 1) (kd_bI b) (nI i) := by
  obtain ⟨hv, hs, h8⟩ := kd_rw0 RG hg
  intro suf
  induction suf with
  | nil =>
    intro pre i b hl hi h
    rw [List.append_nil] at hl
    have h1 : lg.length = i := by rw [hl]; exact hi
    have e : (b && kd_gd lf [] x) = b := Bool.and_true b
    rw [e] at h
    exact And.intro hv (pk_le lg.length i (fun _ => h) (fun z => absurd z (by omega)) hs)
  | cons c suf ih =>
    intro pre i b hl hi h
    obtain ⟨h1, h2, h3, h4⟩ := kd_rw1 RG hg hl hi
    refine And.intro hv (pk_le lg.length i (fun z => absurd z (by omega)) (fun _ => kd_brb b rfl (fun hb => ?_) (fun hb => ?_)) hs)
    · rw [hb] at h ⊢; exact h
    · have hgd : kd_gd lf (c :: suf) x = (decide ((x ||| c) ∈ lf) && kd_gd lf suf x) := List.all_cons
      rw [hb, Bool.true_and, hgd] at h
      refine And.intro h3 (nm_r (e' := nI (x ||| c)) (by rw [h4, kd_or]) (kd_find RF hf ?_ ?_))
      · intro p y s hl2 hy
        obtain ⟨k1, k2, _, _⟩ := kd_rw1 RF hf hl2 rfl
        have k8 := RF.2.1
        have hxc : y = x ||| c := (nI_eq (by omega) (Nat.lt_trans (kd_or_lt hx h2) (by decide))).mp hy
        have hmem : (x ||| c) ∈ lf := by rw [hl2, ← hxc]; simp
        rw [decide_eq_true hmem, Bool.true_and] at h
        refine br_f (nI_pos (by omega)) (nm_r (nI_1 i) (ih (pre ++ [c]) (i + 1) true (by rw [hl]; simp) (by simp [hi]) ?_))
        rw [Bool.true_and]; exact h
      · intro hy
        have hmem : ¬ (x ||| c) ∈ lf := fun z => hy _ z rfl
        rw [decide_eq_false hmem, Bool.false_and] at h
        refine br_t (by decide) (nm_r (nI_1 i) (ih (pre ++ [c]) (i + 1) false (by rw [hl]; simp) (by simp [hi]) ?_))
        rw [Bool.false_and]; exact h
theorem kd_q57 {post : SX → Prop} {f g : Nat} {lf lg M : List Nat} (RF : kd_RW sz cb f lf) (RG : kd_RW sz cb g lg) (hf : f < 4) (hg : g < 4) (h8 : M.length ≤ 8) (hx : ∀ x, x ∈ M → x < 128)
    (K : ∀ fm' md', kd_MD fm' md' (M.filter (kd_G lf lg)) → post (fm', fw, sz, cb, md', ck, ho, wc, wl)) :
    ∀ (suf pre : List Nat) (i : Nat) (Q : List Nat) (md : Nat → Int32), M = pre ++ suf → pre.length = i → Q.length ≤ i → kd_SG md 0 Q → kd_SG md i suf → M.filter (kd_G lf lg) = Q ++ suf.filter (kd_G lf lg) → wX_quotient_57 post (nI f) (nI g) (nI (kd_lt lg)) (nI M.length) fw (suf.length + 1) (nI Q.length) (nI i) sz cb md ck ho wc wl := by
  intro suf
  induction suf with
  | nil =>
    intro pre i Q md hl hi hQ s1 s2 hq
    rw [List.append_nil] at hl
    have h1 : M.length = i := by rw [hl]; exact hi
    have hq' : M.filter (kd_G lf lg) = Q := by rw [hq]; exact List.append_nil Q
    refine pk_le M.length i (fun _ => K _ md ?_) (fun z => absurd z (by omega))
    rw [hq']
    refine ⟨rfl, by omega, fun x hx' => hx x ?_, s1⟩
    rw [← hq'] at hx'
    exact (List.mem_filter.mp hx').1
  | cons c suf ih =>
    intro pre i Q md hl hi hQ s1 s2 hq
    have h1 : i < M.length := by rw [hl, List.length_append, List.length_cons]; omega
    have hc : c < 128 := hx c (by rw [hl]; simp)
    have h4 : md (nI i).toNatClampNeg = nI c := by rw [nI_clamp (by omega)]; exact s2.1
    have step : wX_quotient_148 post (wX_quotient_57 post (nI f) (nI g) (nI (kd_lt lg)) (nI M.length) fw (suf.length + 1)) (nI f) (nI g) (nI (kd_lt lg)) (nI Q.length) (nI i) (nI c) (kd_bI (kd_G lf lg c)) (nI M.length) fw sz cb md ck ho wc wl := by
      refine kd_brb _ rfl (fun hG => ?_) (fun hG => ?_)
      · rw [List.filter_cons_of_neg (by rw [hG]; decide)] at hq
        exact nm_r (nI_1 i) (ih (pre ++ [c]) (i + 1) Q md (by rw [hl]; simp) (by simp [hi]) (by omega) s1 s2.2 hq)
      · rw [List.filter_cons_of_pos hG] at hq
        refine And.intro (vp_in_nI (by omega) (by decide)) (nm_r (e' := upd md Q.length (nI c)) ?_ (nm_r (e' := nI (Q ++ [c]).length) ?_ (nm_r (nI_1 i) ?_)))
        · rw [nI_clamp (by omega), kd_nb2 hc]
        · rw [nI_1]; simp
        · refine ih (pre ++ [c]) (i + 1) (Q ++ [c]) _ (by rw [hl]; simp) (by simp [hi]) (by simp; omega) ?_ (kd_SGu (by omega) s2.2) (by rw [hq]; simp)
          rw [kd_SGa, Nat.zero_add]
          exact ⟨kd_SGu (by omega) s1, pk_us, trivial⟩
    refine pk_le M.length i (fun z => absurd z (by omega)) (fun _ => And.intro (vp_in_nI (by omega) (by decide)) (nm_r h4 ?_))
    rw [nx_and]
    have hlt : c &&& kd_lt lg < 128 := kd_and_lt _ hc
    refine pk_eq (c &&& kd_lt lg) 0 (fun z => ⟨lg.length + 1, ?_⟩) (fun z => ⟨lg.length + 1, ?_⟩)
    · refine kd_q92 RF RG hf hg hc lg [] 0 true rfl rfl ?_
      rw [Bool.true_and]
      have e : kd_G lf lg c = kd_gd lf lg c := by
        rw [kd_G, z]; exact Bool.true_and _
      rw [← e]; exact step
    · refine kd_q92 RF RG hf hg hc lg [] 0 false rfl rfl ?_
      rw [Bool.false_and]
      have e : kd_G lf lg c = false := by
        rw [kd_G, beq_false_of_ne z]; exact Bool.false_and _
      rw [← e]; exact step
theorem kd_qb_lt {c : Nat} {l : List Nat} (h : ∀ x, x ∈ l → x < 128) : ∀ x, x ∈ kd_qb c l → x < 128 := by
  intro x hx
  obtain ⟨o, ho, rfl⟩ := List.mem_map.mp hx
  exact kd_df_lt c (h o (List.mem_filter.mp ho).1)
theorem kd_q5 {post : SX → Prop} {f g : Nat} {lf lg : List Nat} (RF : kd_RW sz cb f lf) (RG : kd_RW sz cb g lg) (hf : f < 4) (hg : g < 4) (hne : lg ≠ [])
    (K : ∀ fm' md', kd_MD fm' md' (kd_qt lf lg) → post (fm', fw, sz, cb, md', ck, ho, wc, wl)) :
    ∀ (suf pre : List Nat) (i a : Nat), lg = pre ++ suf → pre.length = i → kd_lt lg = suf.foldl (fun a c => a ||| c) a → wX_quotient_5 post (nI f) (nI g) fm fw sz cb md ck ho wc wl (suf.length + 1) (nI a) (nI i) := by
  obtain ⟨hv, hs, h8⟩ := kd_rw0 RG hg
  intro suf
  induction suf with
  | nil =>
    intro pre i a hl hi ha
    rw [List.append_nil] at hl
    have h1 : lg.length = i := by rw [hl]; exact hi
    have ha' : kd_lt lg = a := ha
    obtain ⟨g0, gr, hg0⟩ := List.exists_cons_of_ne_nil hne
    obtain ⟨k1, k2, k3, k4⟩ := kd_rw1 (pre := []) RG hg hg0 rfl
    have e0 : nI g * 8 + nI 0 = nI g * 8 := by rw [nI_0, Int32.add_zero]
    rw [List.length_nil, e0] at k3 k4
    have hd : lg.headD 0 = g0 := by rw [hg0]; rfl
    refine And.intro hv (pk_le lg.length i (fun _ => And.intro k3 ?_) (fun z => absurd z (by omega)) hs)
    rw [k4]
    refine kd_quotientBy RF hf k2 (fun fm' md' HM => ?_)
    refine ⟨(kd_qb g0 lf).length + 1, ?_⟩
    rw [HM.1, ← ha']
    refine kd_q57 (M := kd_qb g0 lf) RF RG hf hg HM.2.1 HM.2.2.1 ?_ (kd_qb g0 lf) [] 0 [] md' rfl rfl (Nat.le_refl 0) trivial HM.2.2.2 rfl
    intro fm2 md2 H2
    refine K fm2 md2 ?_
    rw [kd_qt, hd]; exact H2
  | cons c suf ih =>
    intro pre i a hl hi ha
    obtain ⟨h1, h2, h3, h4⟩ := kd_rw1 RG hg hl hi
    refine And.intro hv (pk_le lg.length i (fun z => absurd z (by omega)) (fun _ => And.intro h3 (nm_r (e' := nI (a ||| c)) (by rw [h4, kd_or]) (nm_r (nI_1 i) ?_))) hs)
    exact ih (pre ++ [c]) (i + 1) (a ||| c) (by rw [hl]; simp) (by simp [hi]) ha
theorem kd_quotient {post : SX → Prop} {f g : Nat} {lf lg : List Nat} (RF : kd_RW sz cb f lf) (RG : kd_RW sz cb g lg) (hf : f < 4) (hg : g < 4) (hne : lg ≠ [])
    (K : ∀ fm' md', kd_MD fm' md' (kd_qt lf lg) → post (fm', fw, sz, cb, md', ck, ho, wc, wl)) : wpX_quotient post (fm, fw, sz, cb, md, ck, ho, wc, wl) (nI f) (nI g) :=
  ⟨lg.length + 1, kd_q5 RF RG hf hg hne K lg [] 0 0 rfl rfl rfl⟩
theorem kd_isP_l {post : Int32 → Prop} {g o : Nat} {lg M : List Nat} (RG : kd_RW sz cb g lg) (HM : kd_MD fm md M) (hg : g < 4) (ho' : o < 128) :
    ∀ (suf pre : List Nat) (i : Nat), lg = pre ++ suf → pre.length = i → post (kd_bI (kd_pr suf M o)) → wX_isProduct_2 post (nI o) (nI g) fm fw sz cb md ck ho wc wl (suf.length + 1) (nI i) := by
  obtain ⟨hv, hs, h8⟩ := kd_rw0 RG hg
  intro suf
  induction suf with
  | nil =>
    intro pre i hl hi h
    rw [List.append_nil] at hl
    have h1 : lg.length = i := by rw [hl]; exact hi
    exact And.intro hv (pk_le lg.length i (fun _ => h) (fun z => absurd z (by omega)) hs)
  | cons c suf ih =>
    intro pre i hl hi h
    obtain ⟨h1, h2, h3, h4⟩ := kd_rw1 RG hg hl hi
    have e : kd_pr (c :: suf) M o = ((kd_sub c o && decide (kd_df o c ∈ M)) || kd_pr suf M o) := List.any_cons
    rw [e] at h
    refine And.intro hv (pk_le lg.length i (fun z => absurd z (by omega)) (fun _ => And.intro h3 (nm_r h4 (kd_brs h2 (fun hsub => ?_) (fun hsub => ?_)))) hs)
    · rw [kd_dfI]
      rw [hsub, Bool.true_and] at h
      refine kd_isMade HM (kd_df_lt c ho') (kd_brb _ rfl (fun hd => ?_) (fun hd => ?_))
      · rw [hd, Bool.false_or] at h
        exact nm_r (nI_1 i) (ih (pre ++ [c]) (i + 1) (by rw [hl]; simp) (by simp [hi]) h)
      · rw [hd, Bool.true_or] at h
        exact h
    · rw [hsub, Bool.false_and, Bool.false_or] at h
      exact nm_r (nI_1 i) (ih (pre ++ [c]) (i + 1) (by rw [hl]; simp) (by simp [hi]) h)
theorem kd_isProduct {post : Int32 → Prop} {g o : Nat} {lg M : List Nat} (RG : kd_RW sz cb g lg) (HM : kd_MD fm md M) (hg : g < 4) (ho' : o < 128) (h : post (kd_bI (kd_pr lg M o))) : wpX_isProduct post (fm, fw, sz, cb, md, ck, ho, wc, wl) (nI o) (nI g) :=
  ⟨lg.length + 1, kd_isP_l RG HM hg ho' lg [] 0 rfl rfl h⟩
theorem kd_r61 {post : SX → Prop} {f : Nat} {l : List Nat} {P : Nat → Bool} (H : kd_RW sz cb f l) (hf : f < 4) (K : ∀ fm' md', kd_MD fm' md' (l.filter P) → post (fm', fw, sz, cb, md', ck, ho, wc, wl)) :
    ∀ (suf pre : List Nat) (i : Nat) (M : List Nat) (fm : Int32) (md : Nat → Int32), l = pre ++ suf → pre.length = i → M.length ≤ i → kd_MD fm md M → l.filter P = M ++ suf.filter P → wX_remainder_61 post (nI f) (nI (kd_mk P 0 l)) fw (suf.length + 1) (nI i) fm sz cb md ck ho wc wl := by
  obtain ⟨hv, hs, h8⟩ := kd_rw0 H hf
  have hmk : kd_mk P 0 l < 256 := kd_mk_lt h8
  intro suf
  induction suf with
  | nil =>
    intro pre i M fm md hl hi hM HM hq
    rw [List.append_nil] at hl
    have h1 : l.length = i := by rw [hl]; exact hi
    have hq' : l.filter P = M := by rw [hq]; exact List.append_nil M
    exact And.intro hv (pk_le l.length i (fun _ => K fm md (by rw [hq']; exact HM)) (fun z => absurd z (by omega)) hs)
  | cons o suf ih =>
    intro pre i M fm md hl hi hM HM hq
    obtain ⟨h1, h2, h3, h4⟩ := kd_rw1 H hf hl hi
    have hbit : (kd_mk P 0 l).testBit i = P o := by
      have := kd_mk_at (P := P) (c := o) (suf := suf) (pre := pre) (i := 0)
      rw [← hl, hi, Nat.zero_add] at this
      exact this
    refine And.intro hv (pk_le l.length i (fun z => absurd z (by omega)) (fun _ => kd_in (by omega) (by omega) (kd_brb (P o) (by rw [hbit]) ?_ ?_)) hs)
    · intro hP
      rw [List.filter_cons_of_neg (by rw [hP]; decide)] at hq
      exact nm_r (nI_1 i) (ih (pre ++ [o]) (i + 1) M fm md (by rw [hl]; simp) (by simp [hi]) (by omega) HM hq)
    · intro hP
      rw [List.filter_cons_of_pos hP] at hq
      have hfm : fm.toNatClampNeg = M.length := by rw [HM.1, nI_clamp (by omega)]
      refine And.intro h3 (And.intro (by rw [HM.1]; exact vp_in_nI (by omega) (by decide)) (nm_r (e' := upd md M.length (nI o)) ?_ (nm_r (e' := nI (M.length + 1)) ?_ (nm_r (nI_1 i) ?_))))
      · rw [hfm, h4, kd_nb h2]
      · rw [HM.1, nI_1]
      · exact ih (pre ++ [o]) (i + 1) (M ++ [o]) _ _ (by rw [hl]; simp) (by simp [hi]) (by simp; omega) (kd_mdp HM (by omega) h2) (by rw [hq]; simp)
theorem kd_r5 {post : SX → Prop} {f g : Nat} {lf lg M : List Nat} (RF : kd_RW sz cb f lf) (RG : kd_RW sz cb g lg) (hf : f < 4) (hg : g < 4) (HM : kd_MD fm md M)
    (K : ∀ fm' md', kd_MD fm' md' (kd_rm lf lg M) → post (fm', fw, sz, cb, md', ck, ho, wc, wl)) :
    ∀ (suf pre : List Nat) (i a : Nat), lf = pre ++ suf → pre.length = i → kd_mk (fun o => !kd_pr lg M o) 0 lf = a ||| kd_mk (fun o => !kd_pr lg M o) i suf → wX_remainder_5 post (nI f) (nI g) fm fw sz cb md ck ho wc wl (suf.length + 1) (nI a) (nI i) := by
  obtain ⟨hv, hs, h8⟩ := kd_rw0 RF hf
  intro suf
  induction suf with
  | nil =>
    intro pre i a hl hi ha
    rw [List.append_nil] at hl
    have h1 : lf.length = i := by rw [hl]; exact hi
    have ha' : kd_mk (fun o => !kd_pr lg M o) 0 lf = a := by rw [ha]; exact Nat.or_zero a
    refine And.intro hv (pk_le lf.length i (fun _ => ⟨lf.length + 1, ?_⟩) (fun z => absurd z (by omega)) hs)
    rw [← ha']
    exact kd_r61 RF hf K lf [] 0 [] 0 md rfl rfl (Nat.le_refl 0) (kd_md0 md) rfl
  | cons o suf ih =>
    intro pre i a hl hi ha
    obtain ⟨h1, h2, h3, h4⟩ := kd_rw1 RF hf hl hi
    refine And.intro hv (pk_le lf.length i (fun z => absurd z (by omega)) (fun _ => And.intro h3 ?_) hs)
    rw [h4]
    have ha2 : kd_mk (fun o => !kd_pr lg M o) 0 lf = a ||| (cond (!kd_pr lg M o) (2 ^ i) 0 ||| kd_mk (fun o => !kd_pr lg M o) (i + 1) suf) := ha
    rw [← Nat.or_assoc] at ha2
    refine kd_isProduct RG HM hg h2 (kd_brb _ rfl (fun hp => ?_) (fun hp => ?_))
    · refine nm_r (e' := nI (a ||| 2 ^ i)) (by rw [kd_pow (by omega), kd_or]) (nm_r (nI_1 i) (ih (pre ++ [o]) (i + 1) _ (by rw [hl]; simp) (by simp [hi]) ?_))
      rw [hp] at ha2; exact ha2
    · refine nm_r (e' := nI (a ||| 0)) (kd_or a 0) (nm_r (nI_1 i) (ih (pre ++ [o]) (i + 1) _ (by rw [hl]; simp) (by simp [hi]) ?_))
      rw [hp] at ha2; exact ha2
theorem kd_remainder {post : SX → Prop} {f g : Nat} {lf lg M : List Nat} (RF : kd_RW sz cb f lf) (RG : kd_RW sz cb g lg) (hf : f < 4) (hg : g < 4) (HM : kd_MD fm md M)
    (K : ∀ fm' md', kd_MD fm' md' (kd_rm lf lg M) → post (fm', fw, sz, cb, md', ck, ho, wc, wl)) : wpX_remainder post (fm, fw, sz, cb, md, ck, ho, wc, wl) (nI f) (nI g) :=
  ⟨lf.length + 1, kd_r5 RF RG hf hg HM K lf [] 0 0 rfl rfl (Nat.zero_or _).symm⟩
end
end
section
/-! the component's readings by places: commonAt, placesOf, letters; goOn -/
theorem kd_m127 {a : Nat} (h : a < 128) : nI a &&& 127 = nI a := by
  rw [pk_andN (by omega) 7 (by decide), Nat.mod_eq_of_lt (by omega)]
/-- the number of letters of all cubes of a list -/
def kd_sm : List Nat → Nat
  | [] => 0
  | c :: l => kd_os c 0 8 + kd_sm l
def kd_nx (l : List Nat) (C j : Nat) : Nat := kd_an (l.filter (fun o => kd_sub C o && o.testBit j))
def kd_push (l : List Nat) (C j : Nat) : Bool := (!C.testBit j && decide (2 ≤ (l.filter (fun o => kd_sub C o && o.testBit j)).length)) && (kd_df (kd_nx l C j) C &&& (2 ^ j - 1) == 0)
theorem kd_mk_bit {P : Nat → Bool} {l pre suf : List Nat} {c i : Nat} (hl : l = pre ++ c :: suf) (hi : pre.length = i) : (kd_mk P 0 l).testBit i = P c := by
  have := kd_mk_at (P := P) (c := c) (suf := suf) (pre := pre) (i := 0)
  rw [← hl, hi, Nat.zero_add] at this
  exact this
section
variable {fm fw : Int32} {sz cb md ck ho wc wl : Nat → Int32}
theorem kd_cm_l {post : Int32 → Prop} {f p : Nat} {l : List Nat} {P : Nat → Bool} (H : kd_RW sz cb f l) (hf : f < 4) (hp : p < 2 ^ 31) (hP : ∀ pre c suf, l = pre ++ c :: suf → p.testBit pre.length = P c) :
    ∀ (suf pre : List Nat) (i a : Nat), l = pre ++ suf → pre.length = i → a < 128 → post (nI ((suf.filter P).foldl (fun a c => a &&& c) a)) → wX_commonAt_6 post (nI f) (nI p) fm fw sz cb md ck ho wc wl (suf.length + 1) (nI a) (nI i) := by
  obtain ⟨hv, hs, h8⟩ := kd_rw0 H hf
  intro suf
  induction suf with
  | nil =>
    intro pre i a hl hi ha h
    rw [List.append_nil] at hl
    have h1 : l.length = i := by rw [hl]; exact hi
    exact And.intro hv (pk_le l.length i (fun _ => h) (fun z => absurd z (by omega)) hs)
  | cons c suf ih =>
    intro pre i a hl hi ha h
    obtain ⟨h1, h2, h3, h4⟩ := kd_rw1 H hf hl hi
    have hbit : p.testBit i = P c := by rw [← hi]; exact hP pre c suf hl
    refine And.intro hv (pk_le l.length i (fun z => absurd z (by omega)) (fun _ => kd_in hp (by omega) (kd_brb (P c) (by rw [hbit]) ?_ ?_)) hs)
    · intro hz
      rw [List.filter_cons_of_neg (by rw [hz]; decide)] at h
      exact nm_r (kd_m127 ha) (nm_r (nI_1 i) (ih (pre ++ [c]) (i + 1) a (by rw [hl]; simp) (by simp [hi]) ha h))
    · intro hz
      rw [List.filter_cons_of_pos hz] at h
      exact And.intro h3 (nm_r (e' := nI (a &&& c)) (by rw [h4, nx_and]) (nm_r (nI_1 i) (ih (pre ++ [c]) (i + 1) (a &&& c) (by rw [hl]; simp) (by simp [hi]) (kd_and_lt c ha) h)))
theorem kd_commonAt {post : Int32 → Prop} {f : Nat} {l : List Nat} {P : Nat → Bool} (H : kd_RW sz cb f l) (hf : f < 4) (h : post (nI (kd_an (l.filter P)))) : wpX_commonAt post (fm, fw, sz, cb, md, ck, ho, wc, wl) (nI f) (nI (kd_mk P 0 l)) :=
  ⟨l.length + 1, kd_cm_l (P := P) H hf (Nat.lt_trans (kd_mk_lt H.2.1) (by decide)) (fun pre c suf hl => kd_mk_bit hl rfl) l [] 0 127 rfl rfl (by decide) h⟩
theorem kd_common255 {post : Int32 → Prop} {f : Nat} {l : List Nat} (H : kd_RW sz cb f l) (hf : f < 4) (h : post (nI (kd_an l))) : wpX_commonAt post (fm, fw, sz, cb, md, ck, ho, wc, wl) (nI f) 255 := by
  refine ⟨l.length + 1, kd_cm_l (p := 255) (P := fun _ => true) H hf (by decide) (fun pre c suf hl => ?_) l [] 0 127 rfl rfl (by decide) ?_⟩
  · have h1 := (kd_rw1 H hf hl rfl).1
    have h8 := H.2.1
    have e : Nat.testBit 255 pre.length = decide (pre.length < 8) := Nat.testBit_two_pow_sub_one 8 pre.length
    rw [e]
    exact decide_eq_true (by omega)
  · rw [List.filter_eq_self.mpr (fun _ _ => rfl)]; exact h
theorem kd_pl_l {post : Int32 → Prop} {f c : Nat} {l : List Nat} (H : kd_RW sz cb f l) (hf : f < 4) (hc : c < 128) :
    ∀ (suf pre : List Nat) (i a : Nat), l = pre ++ suf → pre.length = i → post (nI (a ||| kd_mk (kd_sub c) i suf)) → wX_placesOf_5 post (nI f) (nI c) fm fw sz cb md ck ho wc wl (suf.length + 1) (nI a) (nI i) := by
  obtain ⟨hv, hs, h8⟩ := kd_rw0 H hf
  intro suf
  induction suf with
  | nil =>
    intro pre i a hl hi h
    rw [List.append_nil] at hl
    have h1 : l.length = i := by rw [hl]; exact hi
    have e : a ||| kd_mk (kd_sub c) i [] = a := Nat.or_zero a
    rw [e] at h
    exact And.intro hv (pk_le l.length i (fun _ => h) (fun z => absurd z (by omega)) hs)
  | cons o suf ih =>
    intro pre i a hl hi h
    obtain ⟨h1, h2, h3, h4⟩ := kd_rw1 H hf hl hi
    have h' : post (nI (a ||| (cond (kd_sub c o) (2 ^ i) 0 ||| kd_mk (kd_sub c) (i + 1) suf))) := h
    rw [← Nat.or_assoc] at h'
    refine And.intro hv (pk_le l.length i (fun z => absurd z (by omega)) (fun _ => And.intro h3 ?_) hs)
    rw [h4]
    refine kd_brs hc (fun hz => ?_) (fun hz => ?_)
    · rw [hz] at h'
      exact nm_r (e' := nI (a ||| 2 ^ i)) (by rw [kd_pow (by omega), kd_or]) (nm_r (nI_1 i) (ih (pre ++ [o]) (i + 1) _ (by rw [hl]; simp) (by simp [hi]) h'))
    · rw [hz] at h'
      exact nm_r (e' := nI (a ||| 0)) (kd_or a 0) (nm_r (nI_1 i) (ih (pre ++ [o]) (i + 1) _ (by rw [hl]; simp) (by simp [hi]) h'))
theorem kd_placesOf {post : Int32 → Prop} {f c : Nat} {l : List Nat} (H : kd_RW sz cb f l) (hf : f < 4) (hc : c < 128) (h : post (nI (kd_mk (kd_sub c) 0 l))) : wpX_placesOf post (fm, fw, sz, cb, md, ck, ho, wc, wl) (nI f) (nI c) :=
  ⟨l.length + 1, kd_pl_l H hf hc l [] 0 0 rfl rfl (by rw [Nat.zero_or]; exact h)⟩
theorem kd_lo_l {post : Int32 → Prop} {f : Nat} {l : List Nat} (H : kd_RW sz cb f l) (hf : f < 4) :
    ∀ (suf pre : List Nat) (i a : Nat), l = pre ++ suf → pre.length = i → post (nI (a + kd_sm suf)) → wX_lettersOf_4 post (nI f) fm fw sz cb md ck ho wc wl (suf.length + 1) (nI a) (nI i) := by
  obtain ⟨hv, hs, h8⟩ := kd_rw0 H hf
  intro suf
  induction suf with
  | nil =>
    intro pre i a hl hi h
    rw [List.append_nil] at hl
    have h1 : l.length = i := by rw [hl]; exact hi
    exact And.intro hv (pk_le l.length i (fun _ => h) (fun z => absurd z (by omega)) hs)
  | cons o suf ih =>
    intro pre i a hl hi h
    obtain ⟨h1, h2, h3, h4⟩ := kd_rw1 H hf hl hi
    have h' : post (nI (a + (kd_os o 0 8 + kd_sm suf))) := h
    rw [← Nat.add_assoc] at h'
    refine And.intro hv (pk_le l.length i (fun z => absurd z (by omega)) (fun _ => And.intro h3 ?_) hs)
    rw [h4]
    exact kd_ones (by omega) (nm_r (nI_add _ _) (nm_r (nI_1 i) (ih (pre ++ [o]) (i + 1) _ (by rw [hl]; simp) (by simp [hi]) h')))
theorem kd_lettersOf {post : Int32 → Prop} {f : Nat} {l : List Nat} (H : kd_RW sz cb f l) (hf : f < 4) (h : post (nI (kd_sm l))) : wpX_lettersOf post (fm, fw, sz, cb, md, ck, ho, wc, wl) (nI f) :=
  ⟨l.length + 1, kd_lo_l H hf l [] 0 0 rfl rfl (by rw [Nat.zero_add]; exact h)⟩
theorem kd_ml_l {post : Int32 → Prop} {M : List Nat} (H : kd_MD fm md M) :
    ∀ (suf pre : List Nat) (i a : Nat), M = pre ++ suf → pre.length = i → post (nI (a + kd_sm suf)) → wX_madeLetters_4 post fm fw sz cb md ck ho wc wl (suf.length + 1) (nI a) (nI i) := by
  have h8 := H.2.1
  intro suf
  induction suf with
  | nil =>
    intro pre i a hl hi h
    rw [List.append_nil] at hl
    have h1 : M.length = i := by rw [hl]; exact hi
    exact pk_le M.length i (fun _ => h) (fun z => absurd z (by omega)) H.1
  | cons o suf ih =>
    intro pre i a hl hi h
    obtain ⟨h1, h2, h3, h4⟩ := kd_md1 H hl hi
    have h' : post (nI (a + (kd_os o 0 8 + kd_sm suf))) := h
    rw [← Nat.add_assoc] at h'
    refine pk_le M.length i (fun z => absurd z (by omega)) (fun _ => And.intro h3 ?_) H.1
    rw [h4]
    exact kd_ones (by omega) (nm_r (nI_add _ _) (nm_r (nI_1 i) (ih (pre ++ [o]) (i + 1) _ (by rw [hl]; simp) (by simp [hi]) h')))
theorem kd_madeLetters {post : Int32 → Prop} {M : List Nat} (H : kd_MD fm md M) (h : post (nI (kd_sm M))) : wpX_madeLetters post (fm, fw, sz, cb, md, ck, ho, wc, wl) :=
  ⟨M.length + 1, kd_ml_l H M [] 0 0 rfl rfl (by rw [Nat.zero_add]; exact h)⟩
theorem kd_defer {post : SX → Prop} {w a b : Nat} (hw : w < 128) (ha : a < 128) (hb : b < 128) (h : post (fm, nI (w + 1), sz, cb, md, ck, ho, upd wc w (nI a), upd wl w (nI b))) : wpX_defer post (fm, nI w, sz, cb, md, ck, ho, wc, wl) (nI a) (nI b) := by
  have hv : vp_in (nI w) 128 := vp_in_nI hw (by decide)
  refine And.intro hv (nm_r (e' := upd wc w (nI a)) ?_ (And.intro hv (nm_r (e' := upd wl w (nI b)) ?_ (nm_r (nI_1 w) h))))
  · rw [nI_clamp (by omega), kd_nb2 ha]
  · rw [nI_clamp (by omega), kd_nb2 hb]
theorem kd_go_l {post : SX → Prop} {f C j w : Nat} {l : List Nat} (H : kd_RW sz cb f l) (hf : f < 4) (hC : C < 128) (hj : j < 7) (hCj : C.testBit j = false)
    (h0 : kd_push l C j = false → post (fm, nI w, sz, cb, md, ck, ho, wc, wl)) (h1 : kd_push l C j = true → w < 128 ∧ post (fm, nI (w + 1), sz, cb, md, ck, ho, upd wc w (nI (kd_nx l C j)), upd wl w (nI (j + 1)))) :
    ∀ (suf pre : List Nat) (i a : Nat), l = pre ++ suf → pre.length = i → kd_mk (fun o => kd_sub C o && o.testBit j) 0 l = a ||| kd_mk (fun o => kd_sub C o && o.testBit j) i suf → wX_goOn_16 post (nI f) (nI C) (nI (kd_mk (kd_sub C) 0 l)) (nI j) fm (nI w) sz cb md ck ho wc wl (suf.length + 1) (nI a) (nI i) := by
  obtain ⟨hv, hs, h8⟩ := kd_rw0 H hf
  have hmk : kd_mk (kd_sub C) 0 l < 256 := kd_mk_lt h8
  have hmk2 : kd_mk (fun o => kd_sub C o && o.testBit j) 0 l < 256 := kd_mk_lt h8
  intro suf
  induction suf with
  | nil =>
    intro pre i a hl hi ha
    rw [List.append_nil] at hl
    have e1 : l.length = i := by rw [hl]; exact hi
    have ha' : a = kd_mk (fun o => kd_sub C o && o.testBit j) 0 l := by rw [ha]; exact (Nat.or_zero a).symm
    refine And.intro hv (pk_le l.length i (fun _ => ?_) (fun z => absurd z (by omega)) hs)
    rw [ha']
    have hlen : (l.filter (fun o => kd_sub C o && o.testBit j)).length ≤ 8 := Nat.le_trans (List.length_filter_le _ _) h8
    refine kd_ones (by omega) ?_
    rw [kd_os_mk (by omega)]
    have hp2 : 1 ≤ 2 ^ j := Nat.one_le_two_pow
    have hnx : kd_nx l C j < 128 := kd_an_lt _
    refine pk_le 2 (l.filter (fun o => kd_sub C o && o.testBit j)).length (fun h2 => kd_commonAt H hf (nm_r (e' := nI (2 ^ j - 1)) ?_ ?_)) (fun h2 => h0 ?_)
    · rw [kd_pow (by omega)]; exact pk_sub (b := 1) hp2
    · show (nI (kd_nx l C j) &&& (nI C ^^^ (-1)) &&& nI (2 ^ j - 1) = 0 → _) ∧ (¬ nI (kd_nx l C j) &&& (nI C ^^^ (-1)) &&& nI (2 ^ j - 1) = 0 → _)
      rw [kd_dfI, nx_and]
      have hlt := kd_and_lt (2 ^ j - 1) (kd_df_lt C hnx)
      refine pk_eq (kd_df (kd_nx l C j) C &&& (2 ^ j - 1)) 0 (fun hz => ?_) (fun hz => h0 ?_)
      · have hp : kd_push l C j = true := by
          rw [kd_push, hCj, decide_eq_true h2, hz]; rfl
        obtain ⟨hw, hpost⟩ := h1 hp
        rw [nI_1]
        exact kd_defer hw hnx (by omega) hpost
      · rw [kd_push, beq_false_of_ne hz, Bool.and_false]
    · rw [kd_push, decide_eq_false (by omega), Bool.and_false, Bool.false_and]
  | cons o suf ih =>
    intro pre i a hl hi ha
    obtain ⟨e1, e2, e3, e4⟩ := kd_rw1 H hf hl hi
    have ha2 : kd_mk (fun o => kd_sub C o && o.testBit j) 0 l = a ||| (cond (kd_sub C o && o.testBit j) (2 ^ i) 0 ||| kd_mk (fun o => kd_sub C o && o.testBit j) (i + 1) suf) := ha
    rw [← Nat.or_assoc] at ha2
    have hbit : (kd_mk (kd_sub C) 0 l).testBit i = kd_sub C o := kd_mk_bit hl hi
    have skip : (kd_sub C o && o.testBit j) = false → ∀ x5 : Int32, x5 = nI a ||| 0 → ∀ x6 : Int32, x6 = nI i + 1 → wX_goOn_16 post (nI f) (nI C) (nI (kd_mk (kd_sub C) 0 l)) (nI j) fm (nI w) sz cb md ck ho wc wl (suf.length + 1) x5 x6 := by
      intro hz
      rw [hz] at ha2
      exact nm_r (e' := nI (a ||| 0)) (kd_or a 0) (nm_r (nI_1 i) (ih (pre ++ [o]) (i + 1) _ (by rw [hl]; simp) (by simp [hi]) ha2))
    refine And.intro hv (pk_le l.length i (fun z => absurd z (by omega)) (fun _ => kd_in (by omega) (by omega) (kd_brb (kd_sub C o) (by rw [hbit]) (fun hz => ?_) (fun hz => And.intro e3 ?_))) hs)
    · exact skip (by rw [hz]; rfl)
    · rw [e4]
      refine kd_in (by omega) (by omega) (kd_brb _ rfl (fun hz2 => ?_) (fun hz2 => ?_))
      · exact skip (by rw [hz2, Bool.and_false])
      · rw [hz, hz2] at ha2
        exact nm_r (e' := nI (a ||| 2 ^ i)) (by rw [kd_pow (by omega), kd_or]) (nm_r (nI_1 i) (ih (pre ++ [o]) (i + 1) _ (by rw [hl]; simp) (by simp [hi]) ha2))
theorem kd_goOn {post : SX → Prop} {f C j w : Nat} {l : List Nat} (H : kd_RW sz cb f l) (hf : f < 4) (hC : C < 128) (hj : j < 7)
    (h0 : kd_push l C j = false → post (fm, nI w, sz, cb, md, ck, ho, wc, wl)) (h1 : kd_push l C j = true → w < 128 ∧ post (fm, nI (w + 1), sz, cb, md, ck, ho, upd wc w (nI (kd_nx l C j)), upd wl w (nI (j + 1)))) : wpX_goOn post (fm, nI w, sz, cb, md, ck, ho, wc, wl) (nI f) (nI C) (nI (kd_mk (kd_sub C) 0 l)) (nI j) := by
  unfold wpX_goOn
  dsimp only
  refine kd_in (by omega) (by omega) (kd_brb _ rfl (fun hz => ?_) (fun hz => ?_))
  · exact ⟨l.length + 1, kd_go_l H hf hC hj hz h0 h1 l [] 0 0 rfl rfl (Nat.zero_or _).symm⟩
  · refine h0 ?_
    rw [kd_push, hz]; rfl
end
end
section
/-! closed cubes, each met once: the mathematics of explore -/
def kd_le (c d : Nat) : Prop := ∀ i, c.testBit i = true → d.testBit i = true
theorem kd_le_a {c d : Nat} (h1 : kd_le c d) (h2 : kd_le d c) : c = d := by
  apply Nat.eq_of_testBit_eq
  intro i
  rw [Bool.eq_iff_iff]
  exact ⟨h1 i, h2 i⟩
theorem kd_le_t {c d e : Nat} (h1 : kd_le c d) (h2 : kd_le d e) : kd_le c e := fun i h => h2 i (h1 i h)
theorem kd_flen {P Q : Nat → Bool} : ∀ {l : List Nat}, (∀ x, x ∈ l → P x = true → Q x = true) → (l.filter P).length ≤ (l.filter Q).length := by
  intro l
  induction l with
  | nil => intro _; exact Nat.le_refl 0
  | cons c l ih =>
    intro h
    have := ih (fun x hx => h x (List.mem_cons_of_mem _ hx))
    cases hp : P c
    · rw [List.filter_cons_of_neg (by rw [hp]; decide)]
      cases hq : Q c
      · rw [List.filter_cons_of_neg (by rw [hq]; decide)]; exact this
      · rw [List.filter_cons_of_pos hq, List.length_cons]; omega
    · rw [List.filter_cons_of_pos hp, List.filter_cons_of_pos (h c List.mem_cons_self hp), List.length_cons, List.length_cons]
      omega
/-- what fewer have in common is more -/
theorem kd_an_mono {P Q : Nat → Bool} {l : List Nat} (h : ∀ x, x ∈ l → P x = true → Q x = true) : kd_le (kd_an (l.filter Q)) (kd_an (l.filter P)) := by
  intro i hi
  rw [kd_an_iff] at hi ⊢
  refine ⟨hi.1, fun x hx => hi.2 x ?_⟩
  obtain ⟨a, b⟩ := List.mem_filter.mp hx
  exact List.mem_filter.mpr ⟨a, h x a b⟩
/-- c is closed, and two cubes have it -/
def kd_ok (l : List Nat) (c : Nat) : Bool := decide (2 ≤ (l.filter (kd_sub c)).length) && (kd_an (l.filter (kd_sub c)) == c)
theorem kd_ok_iff {l : List Nat} {c : Nat} : kd_ok l c = true ↔ 2 ≤ (l.filter (kd_sub c)).length ∧ kd_an (l.filter (kd_sub c)) = c := by
  rw [kd_ok, Bool.and_eq_true, decide_eq_true_iff, beq_iff_eq]
theorem kd_ok_lt {l : List Nat} {c : Nat} (h : kd_ok l c = true) : c < 128 := by
  rw [← (kd_ok_iff.mp h).2]; exact kd_an_lt _
/-- what all that have P share lies in a closed cube whose holders have P -/
theorem kd_ok_ge {l : List Nat} {D : Nat} {P : Nat → Bool} (h : kd_ok l D = true) (hP : ∀ x, x ∈ l → kd_le D x → P x = true) : 2 ≤ (l.filter P).length ∧ kd_le (kd_an (l.filter P)) D := by
  obtain ⟨h1, h2⟩ := kd_ok_iff.mp h
  have h3 : ∀ x, x ∈ l → kd_sub D x = true → P x = true := fun x hx z => hP x hx (kd_sub_iff.mp z)
  refine ⟨Nat.le_trans h1 (kd_flen h3), ?_⟩
  have := kd_an_mono h3
  rw [h2] at this
  exact this
theorem kd_nx_c {l : List Nat} {C j : Nat} (hC : C < 128) : kd_le C (kd_nx l C j) := by
  intro i hi
  rw [kd_nx, kd_an_iff]
  refine ⟨kd_tb7' hC hi, fun x hx => ?_⟩
  have := (List.mem_filter.mp hx).2
  rw [Bool.and_eq_true] at this
  exact kd_sub_iff.mp this.1 i hi
theorem kd_nx_j {l : List Nat} {C j : Nat} (hj : j < 7) : (kd_nx l C j).testBit j = true := by
  rw [kd_nx, kd_an_iff]
  refine ⟨hj, fun x hx => ?_⟩
  have := (List.mem_filter.mp hx).2
  rw [Bool.and_eq_true] at this
  exact this.2
theorem kd_nx_ok {l : List Nat} {C j : Nat} (hC : C < 128) (hj : j < 7) (h : 2 ≤ (l.filter (fun o => kd_sub C o && o.testBit j)).length) : kd_ok l (kd_nx l C j) = true := by
  have e : l.filter (kd_sub (kd_nx l C j)) = l.filter (fun o => kd_sub C o && o.testBit j) := by
    apply List.filter_congr
    intro x hx
    rw [Bool.eq_iff_iff, Bool.and_eq_true, kd_sub_iff, kd_sub_iff]
    constructor
    · intro z
      exact ⟨fun i hi => z i (kd_nx_c hC i hi), z j (kd_nx_j hj)⟩
    · intro z i hi
      rw [kd_nx, kd_an_iff] at hi
      refine hi.2 x (List.mem_filter.mpr ⟨hx, ?_⟩)
      rw [Bool.and_eq_true, kd_sub_iff]
      exact z
  rw [kd_ok_iff, e]
  exact ⟨h, rfl⟩
theorem kd_push_iff {l : List Nat} {C j : Nat} : kd_push l C j = true ↔ C.testBit j = false ∧ 2 ≤ (l.filter (fun o => kd_sub C o && o.testBit j)).length ∧ ∀ i, i < j → (kd_nx l C j).testBit i = true → C.testBit i = true := by
  rw [kd_push, Bool.and_eq_true, Bool.and_eq_true, decide_eq_true_iff, beq_iff_eq, Bool.not_eq_true', and_assoc, kd_z_iff]
  constructor
  · intro h
    refine ⟨h.1, h.2.1, fun i hi hn => ?_⟩
    have := h.2.2 i
    rw [Nat.testBit_and, kd_dfT, hn, Nat.testBit_two_pow_sub_one, decide_eq_true hi] at this
    cases e : C.testBit i
    · rw [e] at this; exact absurd this (by decide)
    · rfl
  · intro h
    refine ⟨h.1, h.2.1, fun i => ?_⟩
    rw [Nat.testBit_and, kd_dfT, Nat.testBit_two_pow_sub_one]
    cases e : (kd_nx l C j).testBit i
    · rfl
    · by_cases hi : i < j
      · rw [h.2.2 i hi e]; rfl
      · rw [decide_eq_false hi, Bool.and_false]
/-- the frame x (a cube, a letter) leads to D -/
def kd_Cov (l : List Nat) (x : Nat × Nat) (D : Nat) : Prop := kd_ok l D = true ∧ kd_le x.1 D ∧ ∀ i, i < x.2 → D.testBit i = true → x.1.testBit i = true
/-- D is still to be met from C by the letters from j on -/
def kd_T (l : List Nat) (C j D : Nat) : Prop := kd_Cov l (C, j) D ∧ D ≠ C
theorem kd_Cov_self {l : List Nat} {x : Nat × Nat} (h : kd_ok l x.1 = true) : kd_Cov l x x.1 := ⟨h, fun _ z => z, fun _ _ z => z⟩
/-- a closed D from C with the letter j in it lies beyond the next cube -/
theorem kd_cov_j {l : List Nat} {C j D : Nat} (h : kd_Cov l (C, j) D) (hD : D.testBit j = true) : 2 ≤ (l.filter (fun o => kd_sub C o && o.testBit j)).length ∧ kd_le (kd_nx l C j) D := by
  refine kd_ok_ge h.1 (fun x hx hle => ?_)
  rw [Bool.and_eq_true, kd_sub_iff]
  exact ⟨kd_le_t h.2.1 hle, hle j hD⟩
theorem kd_T_skip {l : List Nat} {C j D : Nat} (hp : kd_push l C j = false) : kd_T l C j D ↔ kd_T l C (j + 1) D := by
  constructor
  · intro h
    refine ⟨⟨h.1.1, h.1.2.1, fun i hi hD => ?_⟩, h.2⟩
    by_cases hij : i < j
    · exact h.1.2.2 i hij hD
    · have e : i = j := by have : i < j + 1 := hi; omega
      subst e
      cases hC : C.testBit i
      · obtain ⟨a, b⟩ := kd_cov_j h.1 hD
        have : kd_push l C i = true := kd_push_iff.mpr ⟨hC, a, fun k hk hn => h.1.2.2 k hk (b k hn)⟩
        rw [hp] at this
        exact absurd this (by decide)
      · rfl
  · intro h
    exact ⟨⟨h.1.1, h.1.2.1, fun i hi hD => h.1.2.2 i (Nat.lt_succ_of_lt hi) hD⟩, h.2⟩
theorem kd_T_push {l : List Nat} {C j D : Nat} (hC : C < 128) (hj : j < 7) (hp : kd_push l C j = true) : kd_T l C j D ↔ kd_Cov l (kd_nx l C j, j + 1) D ∨ kd_T l C (j + 1) D := by
  obtain ⟨p1, p2, p3⟩ := kd_push_iff.mp hp
  constructor
  · intro h
    cases hD : D.testBit j
    · refine Or.inr ⟨⟨h.1.1, h.1.2.1, fun i hi hDi => ?_⟩, h.2⟩
      by_cases hij : i < j
      · exact h.1.2.2 i hij hDi
      · have e : i = j := by have : i < j + 1 := hi; omega
        rw [e, hD] at hDi
        exact absurd hDi (by decide)
    · obtain ⟨a, b⟩ := kd_cov_j h.1 hD
      refine Or.inl ⟨h.1.1, b, fun i hi hDi => ?_⟩
      by_cases hij : i < j
      · exact kd_nx_c hC i (h.1.2.2 i hij hDi)
      · have e : i = j := by have : i < j + 1 := hi; omega
        rw [e]; exact kd_nx_j hj
  · intro h
    rcases h with h | h
    · have hDj : D.testBit j = true := h.2.1 j (kd_nx_j hj)
      refine ⟨⟨h.1, kd_le_t (kd_nx_c hC) h.2.1, fun i hi hD => p3 i hi (h.2.2 i (Nat.lt_succ_of_lt hi) hD)⟩, fun z => ?_⟩
      rw [z, p1] at hDj
      exact absurd hDj (by decide)
    · exact ⟨⟨h.1.1, h.1.2.1, fun i hi hD => h.1.2.2 i (Nat.lt_succ_of_lt hi) hD⟩, h.2⟩
theorem kd_T_ex {l : List Nat} {C j D : Nat} (hj : j < 7) (hp : kd_push l C j = true) (h : kd_Cov l (kd_nx l C j, j + 1) D) : ¬ kd_T l C (j + 1) D := by
  intro z
  have hDj : D.testBit j = true := h.2.1 j (kd_nx_j hj)
  have := z.1.2.2 j (Nat.lt_succ_self j) hDj
  rw [show (C, j + 1).1 = C from rfl, (kd_push_iff.mp hp).1] at this
  exact absurd this (by decide)
theorem kd_T_end {l : List Nat} {C D : Nat} : ¬ kd_T l C 7 D := by
  intro h
  refine h.2 (kd_le_a (fun i hi => ?_) h.1.2.1)
  exact h.1.2.2 i (kd_tb7' (kd_ok_lt h.1.1) hi) hi
/-- met: dn; waiting: sk; T: what the cube in hand still leads to -/
def kd_INV (l dn : List Nat) (sk : List (Nat × Nat)) (T : Nat → Prop) : Prop :=
  (∀ D, kd_ok l D = true → D ∈ dn ∨ (∃ x, x ∈ sk ∧ kd_Cov l x D) ∨ T D) ∧
  (∀ D, D ∈ dn → kd_ok l D = true ∧ (∀ x, x ∈ sk → ¬ kd_Cov l x D) ∧ ¬ T D) ∧
  (∀ x, x ∈ sk → kd_ok l x.1 = true ∧ x.2 ≤ 7 ∧ ∀ D, kd_Cov l x D → ¬ T D) ∧
  sk.Pairwise (fun x y => ∀ D, kd_Cov l x D → ¬ kd_Cov l y D) ∧ dn.Nodup
theorem kd_INV_c {l dn : List Nat} {sk : List (Nat × Nat)} {T T' : Nat → Prop} (h : ∀ D, T D ↔ T' D) (H : kd_INV l dn sk T) : kd_INV l dn sk T' := by
  have e : T = T' := funext (fun D => propext (h D))
  rw [← e]; exact H
theorem kd_inv0 {l : List Nat} (h2 : 2 ≤ l.length) : kd_INV l [] [(kd_an l, 0)] (fun _ => False) := by
  have e : l.filter (kd_sub (kd_an l)) = l := by
    apply List.filter_eq_self.mpr
    intro x hx
    rw [kd_sub_iff]
    intro i hi
    exact (kd_an_iff.mp hi).2 x hx
  have hok : kd_ok l (kd_an l) = true := by rw [kd_ok_iff, e]; exact ⟨h2, rfl⟩
  refine ⟨fun D hD => Or.inr (Or.inl ⟨_, List.mem_singleton.mpr rfl, hD, ?_, fun i hi => absurd hi (Nat.not_lt_zero i)⟩), fun D hD => absurd hD List.not_mem_nil, fun x hx => ?_, List.pairwise_singleton _ _, List.nodup_nil⟩
  · have := (kd_ok_ge (P := fun _ => true) hD (fun _ _ _ => rfl)).2
    rw [List.filter_eq_self.mpr (fun _ _ => rfl)] at this
    exact this
  · rw [List.mem_singleton.mp hx]
    exact ⟨hok, Nat.zero_le 7, fun _ _ z => z⟩
theorem kd_inv_pop {l dn : List Nat} {sk : List (Nat × Nat)} {C j : Nat} (H : kd_INV l dn ((C, j) :: sk) (fun _ => False)) : kd_INV l (C :: dn) sk (kd_T l C j) := by
  obtain ⟨h1, h2, h3, h4, h5⟩ := H
  have hok : kd_ok l C = true := (h3 (C, j) List.mem_cons_self).1
  have hself : kd_Cov l (C, j) C := kd_Cov_self (x := (C, j)) hok
  rw [List.pairwise_cons] at h4
  refine ⟨fun D hD => ?_, fun D hD => ?_, fun x hx => ?_, h4.2, ?_⟩
  · rcases h1 D hD with z | ⟨x, hx, z⟩ | z
    · exact Or.inl (List.mem_cons_of_mem _ z)
    · rcases List.mem_cons.mp hx with e | hx
      · rw [e] at z
        by_cases hDC : D = C
        · exact Or.inl (by rw [hDC]; exact List.mem_cons_self)
        · exact Or.inr (Or.inr ⟨z, hDC⟩)
      · exact Or.inr (Or.inl ⟨x, hx, z⟩)
    · exact absurd z id
  · rcases List.mem_cons.mp hD with e | hD
    · rw [e]
      exact ⟨hok, fun x hx => h4.1 x hx C hself, fun z => z.2 rfl⟩
    · obtain ⟨a, b, _⟩ := h2 D hD
      exact ⟨a, fun x hx => b x (List.mem_cons_of_mem _ hx), fun z => b (C, j) List.mem_cons_self z.1⟩
  · obtain ⟨a, b, _⟩ := h3 x (List.mem_cons_of_mem _ hx)
    exact ⟨a, b, fun D hD z => h4.1 x hx D z.1 hD⟩
  · rw [List.nodup_cons]
    exact ⟨fun z => (h2 C z).2.1 (C, j) List.mem_cons_self hself, h5⟩
theorem kd_inv_push {l dn : List Nat} {sk : List (Nat × Nat)} {C j : Nat} (hC : C < 128) (hj : j < 7) (hp : kd_push l C j = true) (H : kd_INV l dn sk (kd_T l C j)) : kd_INV l dn ((kd_nx l C j, j + 1) :: sk) (kd_T l C (j + 1)) := by
  obtain ⟨h1, h2, h3, h4, h5⟩ := H
  have hok : kd_ok l (kd_nx l C j) = true := kd_nx_ok hC hj (kd_push_iff.mp hp).2.1
  have hT : ∀ D, kd_T l C j D ↔ kd_Cov l (kd_nx l C j, j + 1) D ∨ kd_T l C (j + 1) D := fun D => kd_T_push hC hj hp
  refine ⟨fun D hD => ?_, fun D hD => ?_, fun x hx => ?_, ?_, h5⟩
  · rcases h1 D hD with z | ⟨x, hx, z⟩ | z
    · exact Or.inl z
    · exact Or.inr (Or.inl ⟨x, List.mem_cons_of_mem _ hx, z⟩)
    · rcases (hT D).mp z with w | w
      · exact Or.inr (Or.inl ⟨_, List.mem_cons_self, w⟩)
      · exact Or.inr (Or.inr w)
  · obtain ⟨a, b, c⟩ := h2 D hD
    refine ⟨a, fun x hx z => ?_, fun z => c ((hT D).mpr (Or.inr z))⟩
    rcases List.mem_cons.mp hx with e | hx
    · rw [e] at z; exact c ((hT D).mpr (Or.inl z))
    · exact b x hx z
  · rcases List.mem_cons.mp hx with e | hx
    · rw [e]
      exact ⟨hok, by show j + 1 ≤ 7; omega, fun D hD => kd_T_ex hj hp hD⟩
    · obtain ⟨a, b, c⟩ := h3 x hx
      exact ⟨a, b, fun D hD z => c D hD ((hT D).mpr (Or.inr z))⟩
  · rw [List.pairwise_cons]
    exact ⟨fun x hx D hD z => (h3 x hx).2.2 D z ((hT D).mpr (Or.inl hD)), h4⟩
theorem kd_inv_len {l dn : List Nat} {sk : List (Nat × Nat)} {T : Nat → Prop} (H : kd_INV l dn sk T) : dn.length + sk.length ≤ 128 := by
  obtain ⟨h1, h2, h3, h4, h5⟩ := H
  have hn : (dn ++ sk.map (fun x => x.1)).Nodup := by
    rw [List.nodup_append]
    refine ⟨h5, ?_, fun a ha b hb e => ?_⟩
    · rw [List.Nodup, List.pairwise_map]
      refine List.Pairwise.imp_of_mem (fun {x y} hx hy z e => ?_) h4
      have hs := kd_Cov_self (x := y) (h3 y hy).1
      rw [← e] at hs
      exact z x.1 (kd_Cov_self (h3 x hx).1) hs
    · obtain ⟨x, hx, rfl⟩ := List.mem_map.mp hb
      rw [e] at ha
      exact (h2 x.1 ha).2.1 x hx (kd_Cov_self (h3 x hx).1)
  have := kd_len128 hn (fun x hx => ?_)
  · rw [List.length_append, List.length_map] at this
    exact this
  · rcases List.mem_append.mp hx with z | z
    · exact kd_ok_lt (h2 x z).1
    · obtain ⟨y, hy, rfl⟩ := List.mem_map.mp z
      exact kd_ok_lt (h3 y hy).1
theorem kd_inv_fin {l dn : List Nat} (H : kd_INV l dn [] (fun _ => False)) (D : Nat) : decide (D ∈ dn) = kd_ok l D := by
  obtain ⟨h1, h2, h3, h4, h5⟩ := H
  rw [Bool.eq_iff_iff, decide_eq_true_iff]
  constructor
  · intro h; exact (h2 D h).1
  · intro h
    rcases h1 D h with z | ⟨x, hx, _⟩ | z
    · exact z
    · exact absurd hx List.not_mem_nil
    · exact absurd z id
end
section
/-! the component's explore -/
/-- the waiting choices, the last one first -/
def kd_SR (wc wl : Nat → Int32) : List (Nat × Nat) → Prop
  | [] => True
  | x :: r => wc r.length = nI x.1 ∧ wl r.length = nI x.2 ∧ kd_SR wc wl r
theorem kd_SR_u {wc wl : Nat → Int32} {k : Nat} {a b : Int32} : ∀ {sk : List (Nat × Nat)}, sk.length ≤ k → kd_SR wc wl sk → kd_SR (upd wc k a) (upd wl k b) sk := by
  intro sk
  induction sk with
  | nil => intro _ _; trivial
  | cons x r ih =>
    intro h z
    rw [List.length_cons] at h
    exact ⟨(pk_un (by omega)).trans z.1, (pk_un (by omega)).trans z.2.1, ih (by omega) z.2.2⟩
def kd_CK (l : List Nat) (ck ho : Nat → Int32) (dn : List Nat) : Prop := (∀ D, D < 128 → ck D = kd_bI (decide (D ∈ dn))) ∧ ∀ D, D ∈ dn → ho D = nI (kd_mk (kd_sub D) 0 l)
/-- what explore leaves: the closed cubes, and who holds them -/
def kd_CKo (l : List Nat) (ck ho : Nat → Int32) : Prop := (∀ D, D < 128 → ck D = kd_bI (kd_ok l D)) ∧ ∀ D, kd_ok l D = true → ho D = nI (kd_mk (kd_sub D) 0 l)
theorem kd_CKf {l dn : List Nat} {ck ho : Nat → Int32} (H : kd_INV l dn [] (fun _ => False)) (h : kd_CK l ck ho dn) : kd_CKo l ck ho := by
  refine ⟨fun D hD => ?_, fun D hD => h.2 D ?_⟩
  · rw [h.1 D hD, kd_inv_fin H]
  · rw [← kd_inv_fin H D, decide_eq_true_iff] at hD
    exact hD
section
variable {fm fw : Int32} {sz cb md ck ho wc wl : Nat → Int32}
theorem kd_e128 {post : SX → Prop} {J : Int32 → Int32 → Int32 → (Nat → Int32) → (Nat → Int32) → (Nat → Int32) → (Nat → Int32) → (Nat → Int32) → (Nat → Int32) → (Nat → Int32) → Prop} {f C r : Nat} {l dn : List Nat} (H : kd_RW sz cb f l) (hf : f < 4) (hC : C < 128)
    (K : ∀ sk wc wl, kd_INV l dn sk (fun _ => False) → kd_SR wc wl sk → J (nI (r + 1)) fm (nI sk.length) sz cb md ck ho wc wl) :
    ∀ (d j : Nat) (sk : List (Nat × Nat)) (wc wl : Nat → Int32), j + d = 7 → kd_INV l dn sk (kd_T l C j) → kd_SR wc wl sk → wX_explore_128 post J (nI f) (nI r) (nI C) (nI (kd_mk (kd_sub C) 0 l)) (d + 1) (nI j) fm (nI sk.length) sz cb md ck ho wc wl := by
  intro d
  induction d with
  | zero =>
    intro j sk wc wl hj HI HS
    have e : j = 7 := by omega
    subst e
    refine pk_le 7 7 (fun _ => nm_r (nI_1 r) (K sk wc wl ?_ HS)) (fun z => absurd z (by omega))
    exact kd_INV_c (fun D => ⟨fun z => kd_T_end z, fun z => absurd z id⟩) HI
  | succ d ih =>
    intro j sk wc wl hj HI HS
    refine pk_le 7 j (fun z => absurd z (by omega)) (fun _ => kd_goOn H hf hC (by omega) (fun hp => ?_) (fun hp => ?_))
    · exact nm_r (nI_1 j) (ih (j + 1) sk wc wl (by omega) (kd_INV_c (fun D => kd_T_skip hp) HI) HS)
    · have HI' := kd_inv_push hC (by omega) hp HI
      have hlen := kd_inv_len HI'
      rw [List.length_cons] at hlen
      exact ⟨by omega, nm_r (nI_1 j) (ih (j + 1) ((kd_nx l C j, j + 1) :: sk) _ _ (by omega) HI' ⟨pk_us, pk_us, kd_SR_u (Nat.le_refl _) HS⟩)⟩
theorem kd_e55 {post : SX → Prop} {f : Nat} {l : List Nat} (H : kd_RW sz cb f l) (hf : f < 4)
    (K : ∀ fw ck ho wc wl, kd_CKo l ck ho → post (fm, fw, sz, cb, md, ck, ho, wc, wl)) :
    ∀ (d r : Nat) (dn : List Nat) (sk : List (Nat × Nat)) (ck ho wc wl : Nat → Int32), r + d = 128 → dn.length = r → kd_INV l dn sk (fun _ => False) → kd_SR wc wl sk → kd_CK l ck ho dn → wX_explore_55 post (nI f) (d + 1) (nI r) fm (nI sk.length) sz cb md ck ho wc wl := by
  have h8 := H.2.1
  intro d
  induction d with
  | zero =>
    intro r dn sk ck ho wc wl hr hdn HI HS HC
    have hlen := kd_inv_len HI
    have e : sk = [] := List.length_eq_zero_iff.mp (by omega)
    subst e
    exact pk_le 128 r (fun _ => K _ ck ho wc wl (kd_CKf HI HC)) (fun z => absurd z (by omega))
  | succ d ih =>
    intro r dn sk ck ho wc wl hr hdn HI HS HC
    have hlen := kd_inv_len HI
    refine pk_le 128 r (fun z => absurd z (by omega)) (fun _ => ?_)
    cases sk with
    | nil => exact br_t (by decide) (K _ ck ho wc wl (kd_CKf HI HC))
    | cons x sk =>
      obtain ⟨C, j⟩ := x
      rw [List.length_cons] at hlen ⊢
      have hx := HI.2.2.1 (C, j) List.mem_cons_self
      have hC : C < 128 := kd_ok_lt hx.1
      have hj : j ≤ 7 := hx.2.1
      have hvC : vp_in (nI C) 128 := vp_in_nI hC (by decide)
      have hvw : vp_in (nI sk.length) 128 := vp_in_nI (by omega) (by decide)
      have hmk : kd_mk (kd_sub C) 0 l < 256 := kd_mk_lt h8
      refine br_f (nI_nle (by omega) (by omega)) (nm_r (nI_pred sk.length) (And.intro hvw (nm_r (e' := nI C) ?_ (kd_placesOf H hf hC ?_))))
      · rw [nI_clamp (by omega)]; exact HS.1
      refine And.intro hvC (nm_r (e' := upd ck C (kd_bI true)) ?_ (And.intro hvC (nm_r (e' := upd ho C (nI (kd_mk (kd_sub C) 0 l))) ?_ (And.intro hvw (nm_r (e' := nI j) ?_ ⟨(7 - j) + 1, ?_⟩)))))
      · rw [nI_clamp (by omega)]; exact congrArg (upd ck C) (kd_bI_n true)
      · rw [nI_clamp (by omega), kd_ns2 (by omega)]
      · rw [nI_clamp (by omega)]; exact HS.2.1
      refine kd_e128 H hf hC ?_ (7 - j) j sk wc wl (by omega) (kd_inv_pop HI) HS.2.2
      intro sk' wc' wl' HI' HS'
      refine ih (r + 1) (C :: dn) sk' _ _ wc' wl' (by omega) (by simp [hdn]) HI' HS' ⟨fun D hD => ?_, fun D hD => ?_⟩
      · by_cases e : D = C
        · subst e
          rw [decide_eq_true List.mem_cons_self]; exact pk_us
        · rw [pk_un e, HC.1 D hD]
          refine congrArg kd_bI (decide_eq_decide.mpr ⟨List.mem_cons_of_mem C, fun z => ?_⟩)
          rcases List.mem_cons.mp z with z | z
          · exact absurd z e
          · exact z
      · by_cases e : D = C
        · subst e; exact pk_us
        · rw [pk_un e]
          refine HC.2 D ?_
          rcases List.mem_cons.mp hD with z | z
          · exact absurd z e
          · exact z
theorem kd_e2 {post : SX → Prop} {f : Nat} {l : List Nat} (H : kd_RW sz cb f l) (hf : f < 4)
    (K : ∀ fw ck ho wc wl, kd_CKo l ck ho → post (fm, fw, sz, cb, md, ck, ho, wc, wl)) :
    ∀ (d i : Nat) (ck : Nat → Int32), i + d = 128 → (∀ D, D < i → ck D = 0) → wX_explore_2 post (nI f) fm fw (d + 1) (nI i) sz cb md ck ho wc wl := by
  obtain ⟨hv, hs, h8⟩ := kd_rw0 H hf
  intro d
  induction d with
  | zero =>
    intro i ck hi hck
    have e : i = 128 := by omega
    subst e
    refine pk_le 128 128 (fun _ => And.intro hv (pk_le 2 l.length (fun h2 => ?_) (fun h2 => ?_) rfl hs)) (fun z => absurd z (by omega))
    · refine kd_common255 H hf (kd_defer (w := 0) (b := 0) (by decide) (kd_an_lt l) (by decide) ⟨128 + 1, ?_⟩)
      refine kd_e55 H hf K 128 0 [] [(kd_an l, 0)] _ _ _ _ rfl rfl (kd_inv0 h2) ⟨pk_us, pk_us, trivial⟩ ⟨fun D hD => ?_, fun D hD => absurd hD List.not_mem_nil⟩
      rw [hck D hD, decide_eq_false List.not_mem_nil]; rfl
    · refine K _ _ _ _ _ ?_
      have hno : ∀ D, kd_ok l D = false := by
        intro D
        have := List.length_filter_le (kd_sub D) l
        rw [kd_ok, decide_eq_false (by omega), Bool.false_and]
      refine ⟨fun D hD => ?_, fun D hD => ?_⟩
      · rw [hno D, hck D hD]; rfl
      · rw [hno D] at hD; exact absurd hD (by decide)
  | succ d ih =>
    intro i ck hi hck
    refine pk_le 128 i (fun z => absurd z (by omega)) (fun _ => And.intro (vp_in_nI (by omega) (by decide)) (nm_r (e' := upd ck i 0) ?_ (nm_r (nI_1 i) (ih (i + 1) _ (by omega) ?_))))
    · rw [nI_clamp (by omega)]; exact congrArg (upd ck i) (kd_bI_n false)
    · intro D hD
      by_cases e : D = i
      · subst e; exact pk_us
      · rw [pk_un e]; exact hck D (by omega)
theorem kd_explore {post : SX → Prop} {f : Nat} {l : List Nat} (H : kd_RW sz cb f l) (hf : f < 4)
    (K : ∀ fw ck ho wc wl, kd_CKo l ck ho → post (fm, fw, sz, cb, md, ck, ho, wc, wl)) : wpX_explore post (fm, fw, sz, cb, md, ck, ho, wc, wl) (nI f) :=
  ⟨128 + 1, kd_e2 H hf K 128 0 ck rfl (fun D hD => absurd hD (Nat.not_lt_zero D))⟩
end
end
section
/-! the component's kernels: sameKernel, isFirst, the counts -/
def kd_tk (l : List Nat) (c d o : Nat) : Bool := !kd_sub c o || ((kd_df o c &&& d == 0) && decide ((kd_df o c ||| d) ∈ l))
def kd_sk (l : List Nat) (c d : Nat) : Bool := ((l.filter (kd_sub c)).length == (l.filter (kd_sub d)).length) && l.all (kd_tk l c d)
def kd_ff (l : List Nat) (c d k : Nat) : Bool := (List.range' d k).all (fun d => !(kd_ok l d && kd_sk l c d))
def kd_hd : List Nat → Int32
  | [] => -1
  | c :: _ => nI c
theorem kd_sub_or (d x : Nat) : kd_sub d (x ||| d) = true := by
  rw [kd_sub_iff]
  intro i hi
  rw [Nat.testBit_or, hi, Bool.or_true]
section
variable {fm fw : Int32} {sz cb md ck ho wc wl : Nat → Int32}
theorem kd_sk_l {post : Int32 → Prop} {f c d : Nat} {l : List Nat} (H : kd_RW sz cb f l) (hf : f < 4) (hc : c < 128) (hd : d < 128) :
    ∀ (suf pre : List Nat) (i : Nat), l = pre ++ suf → pre.length = i → post (kd_bI (suf.all (kd_tk l c d))) → wX_sameKernel_34 post (nI f) (nI c) (nI d) (nI (kd_mk (kd_sub c) 0 l)) (nI (kd_mk (kd_sub d) 0 l)) fm fw sz cb md ck ho wc wl (suf.length + 1) (nI i) := by
  obtain ⟨hv, hs, h8⟩ := kd_rw0 H hf
  have hmk : kd_mk (kd_sub c) 0 l < 256 := kd_mk_lt h8
  have hmk2 : kd_mk (kd_sub d) 0 l < 256 := kd_mk_lt h8
  intro suf
  induction suf with
  | nil =>
    intro pre i hl hi h
    rw [List.append_nil] at hl
    have h1 : l.length = i := by rw [hl]; exact hi
    exact And.intro hv (pk_le l.length i (fun _ => h) (fun z => absurd z (by omega)) hs)
  | cons o suf ih =>
    intro pre i hl hi h
    obtain ⟨h1, h2, h3, h4⟩ := kd_rw1 H hf hl hi
    rw [List.all_cons] at h
    have hbit : (kd_mk (kd_sub c) 0 l).testBit i = kd_sub c o := kd_mk_bit hl hi
    have hdf : kd_df o c < 128 := kd_df_lt c h2
    have hor : kd_df o c ||| d < 128 := kd_or_lt hdf hd
    have hand : kd_df o c &&& d < 128 := kd_and_lt d hdf
    refine And.intro hv (pk_le l.length i (fun z => absurd z (by omega)) (fun _ => And.intro h3 (nm_r h4 (kd_in (by omega) (by omega) (kd_brb (kd_sub c o) (by rw [hbit]) (fun hz => ?_) (fun hz => ?_))))) hs)
    · have e : kd_tk l c d o = true := by rw [kd_tk, hz]; rfl
      rw [e, Bool.true_and] at h
      exact nm_r (nI_1 i) (ih (pre ++ [o]) (i + 1) (by rw [hl]; simp) (by simp [hi]) h)
    · have e : kd_tk l c d o = ((kd_df o c &&& d == 0) && decide ((kd_df o c ||| d) ∈ l)) := by rw [kd_tk, hz]; rfl
      rw [e] at h
      rw [kd_dfI, kd_or, nx_and]
      refine kd_find H hf (fun p y s hl2 hy => ?_) (fun hy => ?_)
      · obtain ⟨k1, k2, _, _⟩ := kd_rw1 H hf hl2 rfl
        have hyx : y = kd_df o c ||| d := (nI_eq (by omega) (by omega)).mp hy
        have hmem : (kd_df o c ||| d) ∈ l := by rw [← hyx, hl2]; simp
        rw [decide_eq_true hmem, Bool.and_true] at h
        refine pk_eq (kd_df o c &&& d) 0 (fun z0 => br_f (nI_pos (by omega)) (kd_in (by omega) (by omega) ?_)) (fun z0 => ?_)
        · have hb2 : (kd_mk (kd_sub d) 0 l).testBit p.length = true := by
            rw [kd_mk_bit hl2 rfl, hyx]; exact kd_sub_or d _
          rw [hb2]
          rw [z0] at h
          exact br_f (by decide) (nm_r (nI_1 i) (ih (pre ++ [o]) (i + 1) (by rw [hl]; simp) (by simp [hi]) h))
        · rw [beq_false_of_ne z0, Bool.false_and] at h
          exact h
      · have hmem : ¬ (kd_df o c ||| d) ∈ l := fun z => hy _ z rfl
        rw [decide_eq_false hmem, Bool.and_false, Bool.false_and] at h
        exact br_c (fun _ => br_t (by decide) h) (fun _ => h)
theorem kd_sameKernel {post : Int32 → Prop} {f c d : Nat} {l : List Nat} (H : kd_RW sz cb f l) (hf : f < 4) (HC : kd_CKo l ck ho) (hc : kd_ok l c = true) (hd : kd_ok l d = true) (h : post (kd_bI (kd_sk l c d))) : wpX_sameKernel post (fm, fw, sz, cb, md, ck, ho, wc, wl) (nI f) (nI c) (nI d) := by
  have h8 := H.2.1
  have hcl := kd_ok_lt hc
  have hdl := kd_ok_lt hd
  have hmk : kd_mk (kd_sub c) 0 l < 256 := kd_mk_lt h8
  have hmk2 : kd_mk (kd_sub d) 0 l < 256 := kd_mk_lt h8
  have l1 := List.length_filter_le (kd_sub c) l
  have l2 := List.length_filter_le (kd_sub d) l
  refine And.intro (vp_in_nI hcl (by decide)) (nm_r (e' := nI (kd_mk (kd_sub c) 0 l)) ?_ (And.intro (vp_in_nI hdl (by decide)) (nm_r (e' := nI (kd_mk (kd_sub d) 0 l)) ?_ (kd_ones (by omega) (kd_ones (by omega) ?_)))))
  · rw [nI_clamp (by omega)]; exact HC.2 c hc
  · rw [nI_clamp (by omega)]; exact HC.2 d hd
  rw [kd_os_mk h8, kd_os_mk h8]
  rw [kd_sk] at h
  refine pk_eq (l.filter (kd_sub c)).length (l.filter (kd_sub d)).length (fun z => ⟨l.length + 1, ?_⟩) (fun z => ?_)
  · rw [z, beq_self_eq_true, Bool.true_and] at h
    exact kd_sk_l H hf hcl hdl l [] 0 rfl rfl h
  · rw [beq_false_of_ne z, Bool.false_and] at h
    exact h
theorem kd_ff_l {post : Int32 → Prop} {f c : Nat} {l : List Nat} (H : kd_RW sz cb f l) (hf : f < 4) (HC : kd_CKo l ck ho) (hc : kd_ok l c = true) :
    ∀ k d : Nat, d + k = c → post (kd_bI (kd_ff l c d k)) → wX_isFirst_2 post (nI f) (nI c) fm fw sz cb md ck ho wc wl (k + 1) (nI d) := by
  have hcl := kd_ok_lt hc
  intro k
  induction k with
  | zero =>
    intro d hd h
    exact pk_le c d (fun _ => h) (fun z => absurd z (by omega))
  | succ k ih =>
    intro d hd h
    have e : kd_ff l c d (k + 1) = (!(kd_ok l d && kd_sk l c d) && kd_ff l c (d + 1) k) := by
      unfold kd_ff; rw [List.range'_succ, List.all_cons]
    rw [e] at h
    refine pk_le c d (fun z => absurd z (by omega)) (fun _ => And.intro (vp_in_nI (by omega) (by decide)) (kd_brb (kd_ok l d) ?_ (fun hz => ?_) (fun hz => ?_)))
    · rw [nI_clamp (by omega)]; exact HC.1 d (by omega)
    · rw [hz, Bool.false_and, Bool.not_false, Bool.true_and] at h
      exact nm_r (nI_1 d) (ih (d + 1) (by omega) h)
    · rw [hz, Bool.true_and] at h
      refine kd_sameKernel H hf HC hc hz (kd_brb _ rfl (fun hs => ?_) (fun hs => ?_))
      · rw [hs, Bool.not_false, Bool.true_and] at h
        exact nm_r (nI_1 d) (ih (d + 1) (by omega) h)
      · rw [hs, Bool.not_true, Bool.false_and] at h
        exact h
theorem kd_isFirst {post : Int32 → Prop} {f c : Nat} {l : List Nat} (H : kd_RW sz cb f l) (hf : f < 4) (HC : kd_CKo l ck ho) (hc : kd_ok l c = true) (h : post (kd_bI (kd_ff l c 0 c))) : wpX_isFirst post (fm, fw, sz, cb, md, ck, ho, wc, wl) (nI f) (nI c) :=
  ⟨c + 1, kd_ff_l H hf HC hc c 0 (Nat.zero_add c) h⟩
theorem kd_k18 {post : Int32 → SX → Prop} {f : Nat} {l : List Nat} (H : kd_RW sz cb f l) (hf : f < 4) (HC : kd_CKo l ck ho) :
    ∀ d c a : Nat, c + d = 128 → post (nI (a + (kd_fl (fun c => kd_ok l c && kd_ff l c 0 c) c d).length)) (fm, fw, sz, cb, md, ck, ho, wc, wl) → wX_kernels_18 post (nI f) fm fw sz cb md ck ho wc wl (d + 1) (nI a) (nI c) := by
  intro d
  induction d with
  | zero =>
    intro c a hc h
    exact pk_le 128 c (fun _ => h) (fun z => absurd z (by omega))
  | succ d ih =>
    intro c a hc h
    refine pk_le 128 c (fun z => absurd z (by omega)) (fun _ => And.intro (vp_in_nI (by omega) (by decide)) (kd_brb (kd_ok l c) ?_ (fun hz => ?_) (fun hz => ?_)))
    · rw [nI_clamp (by omega)]; exact HC.1 c (by omega)
    · rw [kd_flf (s := fun c => kd_ok l c && kd_ff l c 0 c) d (by rw [hz]; rfl)] at h
      exact nm_r (Int32.add_zero _) (nm_r (nI_1 c) (ih (c + 1) a (by omega) h))
    · refine kd_isFirst H hf HC hz (kd_brb _ rfl (fun hs => ?_) (fun hs => ?_))
      · rw [kd_flf (s := fun c => kd_ok l c && kd_ff l c 0 c) d (by rw [hz, hs]; rfl)] at h
        exact nm_r (Int32.add_zero _) (nm_r (nI_1 c) (ih (c + 1) a (by omega) h))
      · rw [kd_flt (s := fun c => kd_ok l c && kd_ff l c 0 c) d (by rw [hz, hs]; rfl), List.length_cons, show a + ((kd_fl (fun c => kd_ok l c && kd_ff l c 0 c) (c + 1) d).length + 1) = a + 1 + (kd_fl (fun c => kd_ok l c && kd_ff l c 0 c) (c + 1) d).length from by omega] at h
        exact nm_r (nI_1 a) (nm_r (nI_1 c) (ih (c + 1) (a + 1) (by omega) h))
theorem kd_c18 {post : Int32 → SX → Prop} {l : List Nat} (HC : kd_CKo l ck ho) :
    ∀ d c a : Nat, c + d = 128 → post (nI (a + (kd_fl (kd_ok l) c d).length)) (fm, fw, sz, cb, md, ck, ho, wc, wl) → wX_cokernels_18 post fm fw sz cb md ck ho wc wl (d + 1) (nI a) (nI c) := by
  intro d
  induction d with
  | zero =>
    intro c a hc h
    exact pk_le 128 c (fun _ => h) (fun z => absurd z (by omega))
  | succ d ih =>
    intro c a hc h
    refine pk_le 128 c (fun z => absurd z (by omega)) (fun _ => And.intro (vp_in_nI (by omega) (by decide)) (kd_brb (kd_ok l c) ?_ (fun hz => ?_) (fun hz => ?_)))
    · rw [nI_clamp (by omega)]; exact HC.1 c (by omega)
    · rw [kd_flf d hz] at h
      exact nm_r (Int32.add_zero _) (nm_r (nI_1 c) (ih (c + 1) a (by omega) h))
    · rw [kd_flt d hz, List.length_cons, show a + ((kd_fl (kd_ok l) (c + 1) d).length + 1) = a + 1 + (kd_fl (kd_ok l) (c + 1) d).length from by omega] at h
      exact nm_r (nI_1 a) (nm_r (nI_1 c) (ih (c + 1) (a + 1) (by omega) h))
theorem kd_n24 {post : Int32 → SX → Prop} {l : List Nat} (HC : kd_CKo l ck ho) :
    ∀ d c : Nat, c + d = 128 → post (kd_hd (kd_fl (kd_ok l) c d)) (fm, fw, sz, cb, md, ck, ho, wc, wl) → wX_nextCokernel_24 post fm fw sz cb md ck ho wc wl (d + 1) (nI c) := by
  intro d
  induction d with
  | zero =>
    intro c hc h
    exact pk_le 128 c (fun _ => h) (fun z => absurd z (by omega))
  | succ d ih =>
    intro c hc h
    refine pk_le 128 c (fun z => absurd z (by omega)) (fun _ => And.intro (vp_in_nI (by omega) (by decide)) (kd_brb (kd_ok l c) ?_ (fun hz => ?_) (fun hz => ?_)))
    · rw [nI_clamp (by omega)]; exact HC.1 c (by omega)
    · rw [kd_flf d hz] at h
      exact nm_r (nI_1 c) (ih (c + 1) (by omega) h)
    · rw [kd_flt d hz] at h
      exact h
end
end
section
/-! the reference's readings -/
def kd_YP (a : Nat → Int32) (b : Nat) (s : Nat → Bool) (n : Nat) : Prop := ∀ c, c < n → a (b + c) = kd_bI (s c)
def kd_YA (a : Nat → Int32) (b : Nat) (s : Nat → Bool) : Prop := kd_YP a b s 128
def kd_YS (a : Nat → Int32) (S : Nat → Nat → Bool) : Prop := ∀ e, e < 4 → kd_YA a (128 * e) (S e)
theorem kd_iy (e c : Nat) : 128 * nI e + nI c = nI (128 * e + c) := by
  rw [show (128 : Int32) = nI 128 from rfl, pk_mul, nI_add]
theorem kd_y1 {a : Nat → Int32} {e c : Nat} {s : Nat → Bool} (H : kd_YA a (128 * e) s) (he : e < 4) (hc : c < 128) : vp_in (128 * nI e + nI c) 512 ∧ a (128 * nI e + nI c).toNatClampNeg = kd_bI (s c) ∧ (128 * nI e + nI c).toNatClampNeg = 128 * e + c := by
  rw [kd_iy, nI_clamp (by omega)]
  exact ⟨vp_in_nI (by omega) (by decide), H c hc, rfl⟩
theorem kd_y0 {a : Nat → Int32} {c : Nat} {s : Nat → Bool} (H : kd_YA a 0 s) (hc : c < 128) : vp_in (nI c) 128 ∧ a (nI c).toNatClampNeg = kd_bI (s c) := by
  have := H c hc
  rw [Nat.zero_add] at this
  rw [nI_clamp (by omega)]
  exact ⟨vp_in_nI hc (by decide), this⟩
def kd_Q (s : Nat → Bool) (c x : Nat) : Bool := (x &&& c == 0) && s (x ||| c)
/-- the quotient by c is free -/
def kd_yG (s : Nat → Bool) (c : Nat) : Bool := decide (2 ≤ (kd_ls (kd_Q s c)).length) && (kd_an (kd_ls (kd_Q s c)) == 0)
def kd_yS (s : Nat → Bool) (c d : Nat) : Bool := (List.range' 0 128).all (fun x => kd_Q s c x == kd_Q s d x)
def kd_nth (l : List Nat) (k : Nat) : Int32 := (l[k]?).elim (-1) nI
section
variable {ai aq al : Nat → Int32} {e : Nat} {s : Nat → Bool}
theorem kd_many_l {post : Int32 → Prop} (H : kd_YA ai (128 * e) s) (he : e < 4) : ∀ d c k : Nat, c + d = 128 → post (nI (k + (kd_fl s c d).length)) → wY_many_4 post (nI e) ai aq al (d + 1) (nI k) (nI c) := by
  intro d
  induction d with
  | zero =>
    intro c k hc h
    exact pk_le 128 c (fun _ => h) (fun z => absurd z (by omega))
  | succ d ih =>
    intro c k hc h
    obtain ⟨h1, h2, _⟩ := kd_y1 H he (c := c) (by omega)
    refine pk_le 128 c (fun z => absurd z (by omega)) (fun _ => And.intro h1 (kd_brb (s c) h2 (fun hz => ?_) (fun hz => ?_)))
    · rw [kd_flf d hz] at h
      exact nm_r (nI_1 c) (ih (c + 1) k (by omega) h)
    · rw [kd_flt d hz, List.length_cons, show k + ((kd_fl s (c + 1) d).length + 1) = k + 1 + (kd_fl s (c + 1) d).length from by omega] at h
      exact nm_r (nI_1 k) (nm_r (nI_1 c) (ih (c + 1) (k + 1) (by omega) h))
theorem kd_many {post : Int32 → Prop} (H : kd_YA ai (128 * e) s) (he : e < 4) (h : post (nI (kd_ls s).length)) : wpY_many post (ai, aq, al) (nI e) :=
  ⟨128 + 1, kd_many_l H he 128 0 0 rfl (by rw [Nat.zero_add]; exact h)⟩
theorem kd_qH {post : Int32 → Prop} {c x : Nat} (H : kd_YA ai (128 * e) s) (he : e < 4) (hc : c < 128) (hx : x < 128) (h : post (kd_bI (kd_Q s c x))) : wpY_quotientHas post (ai, aq, al) (nI e) (nI c) (nI x) := by
  unfold wpY_quotientHas
  dsimp only
  rw [nx_and, kd_or]
  have hxc := kd_or_lt hx hc
  have hand := kd_and_lt c hx
  obtain ⟨h1, h2, _⟩ := kd_y1 H he hxc
  refine pk_eq (x &&& c) 0 (fun z => And.intro h1 (kd_brb (s (x ||| c)) h2 (fun hz => ?_) (fun hz => ?_))) (fun z => ?_)
  · rw [kd_Q, hz, Bool.and_false] at h; exact h
  · rw [kd_Q, z, hz] at h; exact h
  · rw [kd_Q, beq_false_of_ne z, Bool.false_and] at h; exact h
theorem kd_fr_l {post : Int32 → Prop} {c : Nat} (H : kd_YA ai (128 * e) s) (he : e < 4) (hc : c < 128) : ∀ d x n a : Nat, x + d = 128 → n ≤ x → a < 128 → post (kd_bI (decide (2 ≤ n + (kd_fl (kd_Q s c) x d).length) && ((kd_fl (kd_Q s c) x d).foldl (fun a c => a &&& c) a == 0))) → wY_freeBy_9 post (nI e) (nI c) ai aq al (d + 1) (nI n) (nI a) (nI x) := by
  intro d
  induction d with
  | zero =>
    intro x n a hx hn ha h
    refine pk_le 128 x (fun _ => pk_lt n 2 (fun z => ?_) (fun z => pk_eq a 0 (fun z0 => ?_) (fun z0 => ?_))) (fun z => absurd z (by omega))
    · rw [decide_eq_false (show ¬ 2 ≤ n + (kd_fl (kd_Q s c) x 0).length from by show ¬ 2 ≤ n + 0; omega), Bool.false_and] at h
      exact h
    · rw [decide_eq_true (show 2 ≤ n + (kd_fl (kd_Q s c) x 0).length from by show 2 ≤ n + 0; omega), Bool.true_and, show ((kd_fl (kd_Q s c) x 0).foldl (fun a c => a &&& c) a == 0) = true from by show (a == 0) = true; rw [z0]; rfl] at h
      exact h
    · rw [show ((kd_fl (kd_Q s c) x 0).foldl (fun a c => a &&& c) a == 0) = false from beq_false_of_ne z0, Bool.and_false] at h
      exact h
  | succ d ih =>
    intro x n a hx hn ha h
    refine pk_le 128 x (fun z => absurd z (by omega)) (fun _ => kd_qH H he hc (by omega) (kd_brb _ rfl (fun hz => ?_) (fun hz => ?_)))
    · rw [hz]
      rw [kd_flf d hz] at h
      exact br_t rfl (nm_r (nI_1 x) (ih (x + 1) n a (by omega) (by omega) ha h))
    · rw [hz]
      rw [kd_flt d hz, List.length_cons, List.foldl_cons, show n + ((kd_fl (kd_Q s c) (x + 1) d).length + 1) = n + 1 + (kd_fl (kd_Q s c) (x + 1) d).length from by omega] at h
      rw [nI_1 n]
      exact br_f (by decide) (nm_r (nx_and a x) (nm_r (nI_1 x) (ih (x + 1) (n + 1) (a &&& x) (by omega) (by omega) (kd_and_lt x ha) h)))
theorem kd_freeBy {post : Int32 → Prop} {c : Nat} (H : kd_YA ai (128 * e) s) (he : e < 4) (hc : c < 128) (h : post (kd_bI (kd_yG s c))) : wpY_freeBy post (ai, aq, al) (nI e) (nI c) :=
  ⟨128 + 1, kd_fr_l H he hc 128 0 0 127 rfl (Nat.le_refl 0) (by decide) (by rw [Nat.zero_add]; exact h)⟩
theorem kd_same_l {post : Int32 → Prop} {c d : Nat} (H : kd_YA ai (128 * e) s) (he : e < 4) (hc : c < 128) (hd : d < 128) : ∀ (k x : Nat) (b : Bool), x + k = 128 → post (kd_bI (b && (List.range' x k).all (fun x => kd_Q s c x == kd_Q s d x))) → wY_same_6 post (nI e) (nI c) (nI d) ai aq al (k + 1) (kd_bI b) (nI x) := by
  have hn : ∀ b : Bool, narrow .boolean (.int (kd_bI b)) = .int (kd_bI b) := by intro b; cases b <;> rfl
  intro k
  induction k with
  | zero =>
    intro x b hx h
    have e1 : (b && (List.range' x 0).all (fun x => kd_Q s c x == kd_Q s d x)) = b := Bool.and_true b
    rw [e1] at h
    exact pk_le 128 x (fun _ => And.intro (hn b) h) (fun z => absurd z (by omega))
  | succ k ih =>
    intro x b hx h
    rw [List.range'_succ, List.all_cons] at h
    refine pk_le 128 x (fun z => absurd z (by omega)) (fun _ => kd_brb b rfl (fun hz => And.intro (hn b) ?_) (fun hz => kd_qH H he hc (by omega) (kd_qH H he hd (by omega) ?_)))
    · rw [hz, Bool.false_and] at h
      rw [hz]; exact h
    · rw [hz, Bool.true_and] at h
      by_cases hq : kd_Q s c x = kd_Q s d x
      · rw [hq, beq_self_eq_true, Bool.true_and] at h
        rw [hq]
        refine br_t rfl (nm_r (nI_1 x) (ih (x + 1) true (by omega) ?_))
        rw [Bool.true_and]; exact h
      · rw [beq_false_of_ne hq, Bool.false_and] at h
        refine br_f ?_ (nm_r (nI_1 x) (ih (x + 1) false (by omega) ?_))
        · cases h1 : kd_Q s c x <;> cases h2 : kd_Q s d x
          · rw [h1, h2] at hq; exact absurd rfl hq
          · decide
          · decide
          · rw [h1, h2] at hq; exact absurd rfl hq
        · rw [Bool.false_and]; exact h
theorem kd_same {post : Int32 → Prop} {c d : Nat} (H : kd_YA ai (128 * e) s) (he : e < 4) (hc : c < 128) (hd : d < 128) (h : post (kd_bI (kd_yS s c d))) : wpY_same post (ai, aq, al) (nI e) (nI c) (nI d) :=
  ⟨128 + 1, kd_same_l H he hc hd 128 0 true rfl (by rw [Bool.true_and]; exact h)⟩
theorem kd_ycube_l {post : Int32 → Prop} {k : Nat} (H : kd_YA ai (128 * e) s) (he : e < 4) (hk : k < 2 ^ 31) : ∀ d c n : Nat, c + d = 128 → n ≤ c → n ≤ k → post (kd_nth (kd_fl s c d) (k - n)) → wY_cube_5 post (nI e) (nI k) ai aq al (d + 1) (nI n) (nI c) := by
  intro d
  induction d with
  | zero =>
    intro c n hc hn hnk h
    exact pk_le 128 c (fun _ => h) (fun z => absurd z (by omega))
  | succ d ih =>
    intro c n hc hn hnk h
    obtain ⟨h1, h2, _⟩ := kd_y1 H he (c := c) (by omega)
    refine pk_le 128 c (fun z => absurd z (by omega)) (fun _ => kd_yE1 _ he (br_f (by decide) (And.intro h1 (kd_brb (s c) h2 (fun hz => ?_) (fun hz => pk_eq n k (fun z => ?_) (fun z => ?_))))))
    · rw [kd_flf d hz] at h
      exact nm_r (nI_1 c) (ih (c + 1) n (by omega) (by omega) hnk h)
    · rw [kd_flt d hz, z, Nat.sub_self] at h
      exact h
    · rw [kd_flt d hz, show k - n = (k - (n + 1)) + 1 from by omega] at h
      exact nm_r (nI_1 n) (nm_r (nI_1 c) (ih (c + 1) (n + 1) (by omega) (by omega) (by omega) h))
theorem kd_ycube_n {post : Int32 → Prop} {x : Int32} (H : kd_YA ai (128 * e) s) (he : e < 4) (hx : x < 0) (h : post (-1)) : ∀ d c n : Nat, c + d = 128 → n ≤ c → wY_cube_5 post (nI e) x ai aq al (d + 1) (nI n) (nI c) := by
  intro d
  induction d with
  | zero =>
    intro c n hc hn
    exact pk_le 128 c (fun _ => h) (fun z => absurd z (by omega))
  | succ d ih =>
    intro c n hc hn
    obtain ⟨h1, h2, _⟩ := kd_y1 H he (c := c) (by omega)
    refine pk_le 128 c (fun z => absurd z (by omega)) (fun _ => kd_yE1 _ he (br_f (by decide) (And.intro h1 (kd_brb (s c) h2 (fun hz => ?_) (fun hz => br_f (fun z => ?_) ?_)))))
    · exact nm_r (nI_1 c) (ih (c + 1) n (by omega) (by omega))
    · rw [← z] at hx; exact nI_pos (by omega) hx
    · exact nm_r (nI_1 n) (nm_r (nI_1 c) (ih (c + 1) (n + 1) (by omega) (by omega)))
theorem kd_yco_l {post : Int32 → Prop} (H : kd_YA ai (128 * e) s) (he : e < 4) : ∀ d c a : Nat, c + d = 128 → post (nI ((kd_fl s c d).foldl (fun a c => a &&& c) a)) → wY_common_23 post (nI e) ai aq al (d + 1) (nI a) (nI c) := by
  intro d
  induction d with
  | zero =>
    intro c a hc h
    exact pk_le 128 c (fun _ => h) (fun z => absurd z (by omega))
  | succ d ih =>
    intro c a hc h
    obtain ⟨h1, h2, _⟩ := kd_y1 H he (c := c) (by omega)
    refine pk_le 128 c (fun z => absurd z (by omega)) (fun _ => And.intro h1 (kd_brb (s c) h2 (fun hz => ?_) (fun hz => ?_)))
    · rw [kd_flf d hz] at h
      exact nm_r (nI_1 c) (ih (c + 1) a (by omega) h)
    · rw [kd_flt d hz] at h
      exact nm_r (nx_and a c) (nm_r (nI_1 c) (ih (c + 1) (a &&& c) (by omega) h))
theorem kd_yho_l {post : Int32 → Prop} {q : Nat} (H : kd_YA ai (128 * e) s) (he : e < 4) (hq : q < 128) (h8 : (kd_ls s).length ≤ 8) : ∀ d c n a : Nat, c + d = 128 → n + (kd_fl s c d).length ≤ 8 → post (nI (a ||| kd_mk (kd_sub q) n (kd_fl s c d))) → wY_holding_26 post (nI e) (nI q) ai aq al (d + 1) (nI a) (nI n) (nI c) := by
  intro d
  induction d with
  | zero =>
    intro c n a hc hn h
    have e1 : a ||| kd_mk (kd_sub q) n (kd_fl s c 0) = a := Nat.or_zero a
    rw [e1] at h
    exact pk_le 128 c (fun _ => h) (fun z => absurd z (by omega))
  | succ d ih =>
    intro c n a hc hn h
    obtain ⟨h1, h2, _⟩ := kd_y1 H he (c := c) (by omega)
    refine pk_le 128 c (fun z => absurd z (by omega)) (fun _ => And.intro h1 (kd_brb (s c) h2 (fun hz => ?_) (fun hz => kd_brs hq (fun hs => ?_) (fun hs => ?_))))
    · rw [kd_flf d hz] at h hn
      exact nm_r (nI_1 c) (ih (c + 1) n a (by omega) hn h)
    · rw [kd_flt d hz] at h hn
      rw [List.length_cons] at hn
      have h' : post (nI (a ||| (cond (kd_sub q c) (2 ^ n) 0 ||| kd_mk (kd_sub q) (n + 1) (kd_fl s (c + 1) d)))) := h
      rw [← Nat.or_assoc, hs] at h'
      exact nm_r (e' := nI (a ||| 2 ^ n)) (by rw [kd_pow (by omega), kd_or]) (nm_r (nI_1 n) (nm_r (nI_1 c) (ih (c + 1) (n + 1) _ (by omega) (by omega) h')))
    · rw [kd_flt d hz] at h hn
      rw [List.length_cons] at hn
      have h' : post (nI (a ||| (cond (kd_sub q c) (2 ^ n) 0 ||| kd_mk (kd_sub q) (n + 1) (kd_fl s (c + 1) d)))) := h
      rw [← Nat.or_assoc, hs] at h'
      have e1 : (a ||| cond false (2 ^ n) 0) = a := Nat.or_zero a
      rw [e1] at h'
      exact nm_r (nI_1 n) (nm_r (nI_1 c) (ih (c + 1) (n + 1) a (by omega) (by omega) h'))
theorem kd_let_l {post : Int32 → Prop} {p : Nat} (hp : p < 2 ^ 31) : ∀ d i a : Nat, i + d = 7 → post (nI (a + kd_os p i d)) → wY_letters_4 post (nI p) ai aq al (d + 1) (nI a) (nI i) := by
  intro d
  induction d with
  | zero => intro i a hi h; exact pk_le 7 i (fun _ => h) (fun z => absurd z (by omega))
  | succ d ih =>
    intro i a hi h
    refine pk_le 7 i (fun z => absurd z (by omega)) (fun _ => nm_r (e' := nI (a + (p.testBit i).toNat)) ?_ (nm_r (nI_1 i) ?_))
    · rw [kd_bit hp (by omega), nI_add]
    · apply ih (i + 1) _ (by omega)
      rw [Nat.add_assoc]
      exact h
theorem kd_letters {post : Int32 → Prop} {p : Nat} (hp : p < 2 ^ 31) (h : post (nI (kd_os p 0 7))) : wpY_letters post (ai, aq, al) (nI p) :=
  ⟨8, kd_let_l hp 7 0 0 rfl (by rw [Nat.zero_add]; exact h)⟩
end
end
section
/-! the reference's writings: store, work -/
def kd_uS (S : Nat → Nat → Bool) (e : Nat) (s : Nat → Bool) : Nat → Nat → Bool := fun k => if k = e then s else S k
theorem kd_uS_s (S : Nat → Nat → Bool) (e : Nat) (s : Nat → Bool) : kd_uS S e s e = s := if_pos rfl
theorem kd_uS_n {S : Nat → Nat → Bool} {e k : Nat} {s : Nat → Bool} (h : k ≠ e) : kd_uS S e s k = S k := if_neg h
theorem kd_YPu {a : Nat → Int32} {b c : Nat} {s : Nat → Bool} (H : kd_YP a b s c) : kd_YP (upd a (b + c) (kd_bI (s c))) b s (c + 1) := by
  intro x hx
  by_cases h : x = c
  · rw [h]; exact pk_us
  · rw [pk_un (by omega)]; exact H x (by omega)
/-- row e is being written anew, c cells are done -/
def kd_YR (a : Nat → Int32) (S : Nat → Nat → Bool) (e : Nat) (q : Nat → Bool) (c : Nat) : Prop := (∀ k, k < 4 → k ≠ e → kd_YA a (128 * k) (S k)) ∧ kd_YP a (128 * e) q c
theorem kd_YRu {a : Nat → Int32} {S : Nat → Nat → Bool} {e c : Nat} {q : Nat → Bool} (hc : c < 128) (H : kd_YR a S e q c) : kd_YR (upd a (128 * e + c) (kd_bI (q c))) S e q (c + 1) := by
  refine ⟨fun k hk hke x hx => ?_, kd_YPu H.2⟩
  rw [pk_un (by omega)]
  exact H.1 k hk hke x hx
theorem kd_YRe {a : Nat → Int32} {S : Nat → Nat → Bool} {e : Nat} {q : Nat → Bool} (H : kd_YR a S e q 128) : kd_YS a (kd_uS S e q) := by
  intro k hk
  by_cases h : k = e
  · rw [h, kd_uS_s]; exact H.2
  · rw [kd_uS_n h]; exact H.1 k hk h
theorem kd_YR0 {a : Nat → Int32} {S : Nat → Nat → Bool} {e : Nat} {q : Nat → Bool} (H : kd_YS a S) : kd_YR a S e q 0 :=
  ⟨fun k hk _ => H k hk, fun c hc => absurd hc (Nat.not_lt_zero c)⟩
/-- one cell of row e changes -/
theorem kd_YSu {a : Nat → Int32} {S : Nat → Nat → Bool} {e c : Nat} {b : Bool} (hc : c < 128) (H : kd_YS a S) : kd_YS (upd a (128 * e + c) (kd_bI b)) (kd_uS S e (fun x => if x = c then b else S e x)) := by
  intro k hk x hx
  by_cases h : k = e
  · rw [h, kd_uS_s]
    by_cases hxc : x = c
    · rw [hxc, pk_us, if_pos rfl]
    · rw [pk_un (by omega), if_neg hxc]
      rw [h] at hk
      exact H e hk x hx
  · rw [kd_uS_n h, pk_un (by omega)]
    exact H k hk x hx
def kd_wr (q s : Nat → Bool) (c : Nat) : Nat → Bool := fun x => if x < c then q x else s x
theorem kd_wr_0 (q s : Nat → Bool) : kd_wr q s 0 = s := by
  funext x; exact if_neg (Nat.not_lt_zero x)
theorem kd_wr_at (q s : Nat → Bool) (c : Nat) : kd_wr q s c c = s c := if_neg (Nat.lt_irrefl c)
theorem kd_YAw {a : Nat → Int32} {b c : Nat} {q s : Nat → Bool} (H : kd_YA a b (kd_wr q s c)) : kd_YA (upd a (b + c) (kd_bI (q c))) b (kd_wr q s (c + 1)) := by
  intro x hx
  by_cases h : x = c
  · rw [h, pk_us, kd_wr, if_pos (Nat.lt_succ_self c)]
  · rw [pk_un (by omega), H x hx]
    refine congrArg kd_bI ?_
    unfold kd_wr
    by_cases hxc : x < c
    · rw [if_pos hxc, if_pos (by omega)]
    · rw [if_neg hxc, if_neg (by omega)]
theorem kd_YAc {a : Nat → Int32} {b : Nat} {q s : Nat → Bool} (h : ∀ x, x < 128 → q x = s x) (H : kd_YA a b q) : kd_YA a b s := by
  intro x hx
  rw [H x hx, h x hx]
theorem kd_wr_e {a : Nat → Int32} {b : Nat} {q s : Nat → Bool} (H : kd_YA a b (kd_wr q s 128)) : kd_YA a b q := kd_YAc (fun x hx => if_pos hx) H
/-- x is in the quotients by all of the first c cubes of g -/
def kd_qs (sg sf : Nat → Bool) : Nat → Nat → Bool
  | 0, _ => true
  | c + 1, x => kd_qs sg sf c x && (!sg c || kd_Q sf c x)
def kd_hit (sg q : Nat → Bool) (c x y : Nat) : Prop := ∃ c' x', (c' < c ∧ x' < 128 ∨ c' = c ∧ x' < x) ∧ sg c' = true ∧ q x' = true ∧ x' ||| c' = y
theorem kd_hit_x {sg q : Nat → Bool} {c x y : Nat} : kd_hit sg q c (x + 1) y ↔ kd_hit sg q c x y ∨ (sg c = true ∧ q x = true ∧ x ||| c = y) := by
  constructor
  · rintro ⟨c', x', h, h1, h2, h3⟩
    by_cases hh : c' = c ∧ x' = x
    · rw [hh.1] at h1 h3; rw [hh.2] at h2 h3
      exact Or.inr ⟨h1, h2, h3⟩
    · exact Or.inl ⟨c', x', by omega, h1, h2, h3⟩
  · rintro (⟨c', x', h, h1, h2, h3⟩ | ⟨h1, h2, h3⟩)
    · exact ⟨c', x', by omega, h1, h2, h3⟩
    · exact ⟨c, x, by omega, h1, h2, h3⟩
theorem kd_hit_c {sg q : Nat → Bool} {c y : Nat} : kd_hit sg q c 128 y ↔ kd_hit sg q (c + 1) 0 y := by
  constructor
  · rintro ⟨c', x', h, h1⟩
    exact ⟨c', x', by omega, h1⟩
  · rintro ⟨c', x', h, h1⟩
    exact ⟨c', x', by omega, h1⟩
/-- what is left when the products up to (c, x) are taken away -/
def kd_LF (al : Nat → Int32) (sf sg q : Nat → Bool) (c x : Nat) : Prop := ∃ r : Nat → Bool, kd_YA al 0 r ∧ ∀ y, y < 128 → (r y = true ↔ sf y = true ∧ ¬ kd_hit sg q c x y)
theorem kd_LF_c {al : Nat → Int32} {sf sg q : Nat → Bool} {c x c' x' : Nat} (h : ∀ y, kd_hit sg q c x y ↔ kd_hit sg q c' x' y) (H : kd_LF al sf sg q c x) : kd_LF al sf sg q c' x' := by
  obtain ⟨r, h1, h2⟩ := H
  exact ⟨r, h1, fun y hy => by rw [h2 y hy, h y]⟩
theorem kd_LF_no {al : Nat → Int32} {sf sg q : Nat → Bool} {c x : Nat} (h : sg c = false ∨ q x = false) (H : kd_LF al sf sg q c x) : kd_LF al sf sg q c (x + 1) := by
  refine kd_LF_c (fun y => ?_) H
  rw [kd_hit_x]
  constructor
  · exact Or.inl
  · rintro (z | ⟨z1, z2, _⟩)
    · exact z
    · rcases h with h | h
      · rw [h] at z1; exact absurd z1 (by decide)
      · rw [h] at z2; exact absurd z2 (by decide)
theorem kd_LF_yes {al : Nat → Int32} {sf sg q : Nat → Bool} {c x : Nat} (h1 : sg c = true) (h2 : q x = true) (H : kd_LF al sf sg q c x) : kd_LF (upd al (x ||| c) (kd_bI false)) sf sg q c (x + 1) := by
  obtain ⟨r, a, b⟩ := H
  refine ⟨fun y => if y = x ||| c then false else r y, fun y hy => ?_, fun y hy => ?_⟩
  · rw [Nat.zero_add]
    show _ = kd_bI (if y = x ||| c then false else r y)
    by_cases e : y = x ||| c
    · rw [e, pk_us, if_pos rfl]
    · rw [pk_un e, if_neg e]
      have := a y hy
      rw [Nat.zero_add] at this
      exact this
  · rw [kd_hit_x]
    show (if y = x ||| c then false else r y) = true ↔ _
    by_cases e : y = x ||| c
    · rw [if_pos e]
      constructor
      · intro z; exact absurd z (by decide)
      · intro z; exact absurd (Or.inr ⟨h1, h2, e.symm⟩) z.2
    · rw [if_neg e, b y hy]
      constructor
      · intro z
        refine ⟨z.1, fun w => ?_⟩
        rcases w with w | w
        · exact z.2 w
        · exact e w.2.2.symm
      · intro z
        exact ⟨z.1, fun w => z.2 (Or.inl w)⟩
section
variable {ai aq al : Nat → Int32}
theorem kd_ystore_l {post : SY → Prop} {e : Nat} {S : Nat → Nat → Bool} {q : Nat → Bool} {t : Int32} (he : e < 4) (hq : (t = 0 ∧ kd_YA aq 0 q) ∨ (t ≠ 0 ∧ kd_YA al 0 q)) (K : ∀ ai', kd_YS ai' (kd_uS S e q) → post (ai', aq, al)) : ∀ (d c : Nat) (ai : Nat → Int32), c + d = 128 → kd_YR ai S e q c → wY_store_2 post (nI e) t (d + 1) (nI c) ai aq al := by
  intro d
  induction d with
  | zero =>
    intro c ai hc H
    have e1 : c = 128 := by omega
    subst e1
    exact pk_le 128 128 (fun _ => K ai (kd_YRe H)) (fun z => absurd z (by omega))
  | succ d ih =>
    intro c ai hc H
    have hix : (128 * nI e + nI c).toNatClampNeg = 128 * e + c := by rw [kd_iy, nI_clamp (by omega)]
    have hv : vp_in (128 * nI e + nI c) 512 := by rw [kd_iy]; exact vp_in_nI (by omega) (by decide)
    refine pk_le 128 c (fun z => absurd z (by omega)) (fun _ => ?_)
    rcases hq with ⟨ht, hq⟩ | ⟨ht, hq⟩
    · obtain ⟨h1, h2⟩ := kd_y0 hq (c := c) (by omega)
      refine br_t ht (And.intro h1 (And.intro hv (nm_r (e' := upd ai (128 * e + c) (kd_bI (q c))) ?_ (nm_r (nI_1 c) (ih (c + 1) _ (by omega) (kd_YRu (by omega) H))))))
      rw [hix, h2, kd_bI_n]
    · obtain ⟨h1, h2⟩ := kd_y0 hq (c := c) (by omega)
      refine br_f ht (And.intro h1 (And.intro hv (nm_r (e' := upd ai (128 * e + c) (kd_bI (q c))) ?_ (nm_r (nI_1 c) (ih (c + 1) _ (by omega) (kd_YRu (by omega) H))))))
      rw [hix, h2, kd_bI_n]
theorem kd_ystore {post : SY → Prop} {e : Nat} {S : Nat → Nat → Bool} {q : Nat → Bool} {t : Int32} (H : kd_YS ai S) (he : e < 4) (hq : (t = 0 ∧ kd_YA aq 0 q) ∨ (t ≠ 0 ∧ kd_YA al 0 q)) (K : ∀ ai', kd_YS ai' (kd_uS S e q) → post (ai', aq, al)) : wpY_store post (ai, aq, al) (nI e) t :=
  ⟨128 + 1, kd_ystore_l he hq K 128 0 ai rfl (kd_YR0 H)⟩
theorem kd_yclear_l {post : Int32 → SY → Prop} {e : Nat} {S : Nat → Nat → Bool} (he : e < 4) (K : ∀ ai', kd_YS ai' (kd_uS S e (fun _ => false)) → post 1 (ai', aq, al)) : ∀ (d c : Nat) (ai : Nat → Int32), c + d = 128 → kd_YR ai S e (fun _ => false) c → wY_clear_2 post (nI e) (d + 1) (nI c) ai aq al := by
  intro d
  induction d with
  | zero =>
    intro c ai hc H
    have e1 : c = 128 := by omega
    subst e1
    exact pk_le 128 128 (fun _ => kd_yE1 _ he (And.intro rfl (K ai (kd_YRe H)))) (fun z => absurd z (by omega))
  | succ d ih =>
    intro c ai hc H
    have hix : (128 * nI e + nI c).toNatClampNeg = 128 * e + c := by rw [kd_iy, nI_clamp (by omega)]
    have hv : vp_in (128 * nI e + nI c) 512 := by rw [kd_iy]; exact vp_in_nI (by omega) (by decide)
    refine pk_le 128 c (fun z => absurd z (by omega)) (fun _ => kd_yE1 _ he (br_f (by decide) (And.intro hv (nm_r (e' := upd ai (128 * e + c) (kd_bI false)) ?_ (nm_r (nI_1 c) (ih (c + 1) _ (by omega) (kd_YRu (q := fun _ => false) (by omega) H)))))))
    rw [hix]; exact congrArg (upd ai (128 * e + c)) (kd_bI_n false)
theorem kd_ydb_l {post : Int32 → SY → Prop} {e f c : Nat} {S : Nat → Nat → Bool} (H : kd_YS ai S) (he : e < 4) (hf : f < 4) (hc : c < 128) (K : ∀ ai' aq', kd_YS ai' (kd_uS S e (kd_Q (S f) c)) → post (nI (kd_ls (kd_Q (S f) c)).length) (ai', aq', al)) : ∀ (d x : Nat) (aq : Nat → Int32), x + d = 128 → kd_YP aq 0 (kd_Q (S f) c) x → wY_divideBy_29 post (nI e) (nI f) (nI c) (d + 1) (nI x) ai aq al := by
  intro d
  induction d with
  | zero =>
    intro x aq hx Hq
    have e1 : x = 128 := by omega
    subst e1
    refine pk_le 128 128 (fun _ => kd_ystore H he (Or.inl ⟨rfl, Hq⟩) (fun ai' H' => ?_)) (fun z => absurd z (by omega))
    have := H' e he
    rw [kd_uS_s] at this
    exact kd_many this he (K ai' aq H')
  | succ d ih =>
    intro x aq hx Hq
    refine pk_le 128 x (fun z => absurd z (by omega)) (fun _ => kd_qH (H f hf) hf hc (by omega) (And.intro (vp_in_nI (by omega) (by decide)) (nm_r (e' := upd aq (0 + x) (kd_bI (kd_Q (S f) c x))) ?_ (nm_r (nI_1 x) (ih (x + 1) _ (by omega) (kd_YPu Hq))))))
    rw [nI_clamp (by omega), kd_bI_n, Nat.zero_add]
theorem kd_w132 {post : SY → Prop} {J : Int32 → (Nat → Int32) → (Nat → Int32) → (Nat → Int32) → Prop} {g c : Nat} {sf sg q : Nat → Bool} (HG : kd_YA ai (128 * g) sg) (HQ : kd_YA aq 0 q) (hg : g < 4) (hc : c < 128) (K : ∀ al', kd_LF al' sf sg q (c + 1) 0 → J (nI (c + 1)) ai aq al') : ∀ (d x : Nat) (al : Nat → Int32), x + d = 128 → kd_LF al sf sg q c x → wY_work_132 post J (nI g) (nI c) (d + 1) (nI x) ai aq al := by
  intro d
  induction d with
  | zero =>
    intro x al hx HL
    have e1 : x = 128 := by omega
    subst e1
    exact pk_le 128 128 (fun _ => nm_r (nI_1 c) (K al (kd_LF_c (fun y => kd_hit_c) HL))) (fun z => absurd z (by omega))
  | succ d ih =>
    intro x al hx HL
    obtain ⟨h1, h2, _⟩ := kd_y1 HG hg hc
    obtain ⟨h3, h4⟩ := kd_y0 HQ (c := x) (by omega)
    have hor : x ||| c < 128 := kd_or_lt (by omega) hc
    refine pk_le 128 x (fun z => absurd z (by omega)) (fun _ => And.intro h1 (kd_brb (sg c) h2 (fun hz => ?_) (fun hz => And.intro h3 (kd_brb (q x) h4 (fun hz2 => ?_) (fun hz2 => ?_)))))
    · exact nm_r (nI_1 x) (ih (x + 1) al (by omega) (kd_LF_no (Or.inl hz) HL))
    · exact nm_r (nI_1 x) (ih (x + 1) al (by omega) (kd_LF_no (Or.inr hz2) HL))
    · rw [kd_or]
      refine And.intro (vp_in_nI hor (by decide)) (nm_r (e' := upd al (x ||| c) (kd_bI false)) ?_ (nm_r (nI_1 x) (ih (x + 1) _ (by omega) (kd_LF_yes hz hz2 HL))))
      rw [nI_clamp (by omega)]; exact congrArg (upd al (x ||| c)) (kd_bI_n false)
theorem kd_w122 {post : SY → Prop} {g : Nat} {sf sg q : Nat → Bool} (HG : kd_YA ai (128 * g) sg) (HQ : kd_YA aq 0 q) (hg : g < 4) (K : ∀ al', kd_LF al' sf sg q 128 0 → post (ai, aq, al')) : ∀ (d c : Nat) (al : Nat → Int32), c + d = 128 → kd_LF al sf sg q c 0 → wY_work_122 post (nI g) (d + 1) (nI c) ai aq al := by
  intro d
  induction d with
  | zero =>
    intro c al hc HL
    have e1 : c = 128 := by omega
    subst e1
    exact pk_le 128 128 (fun _ => K al HL) (fun z => absurd z (by omega))
  | succ d ih =>
    intro c al hc HL
    exact pk_le 128 c (fun z => absurd z (by omega)) (fun _ => ⟨128 + 1, kd_w132 HG HQ hg (by omega) (fun al' HL' => ih (c + 1) al' (by omega) HL') 128 0 al rfl HL⟩)
theorem kd_w52 {post : SY → Prop} {J : Int32 → (Nat → Int32) → (Nat → Int32) → (Nat → Int32) → Prop} {f g c : Nat} {sf sg : Nat → Bool} (HF : kd_YA ai (128 * f) sf) (HG : kd_YA ai (128 * g) sg) (hf : f < 4) (hg : g < 4) (hc : c < 128) (K : ∀ aq', kd_YA aq' 0 (kd_qs sg sf (c + 1)) → J (nI (c + 1)) ai aq' al) : ∀ (d x : Nat) (aq : Nat → Int32), x + d = 128 → kd_YA aq 0 (kd_wr (kd_qs sg sf (c + 1)) (kd_qs sg sf c) x) → wY_work_52 post J (nI f) (nI g) (nI c) (d + 1) (nI x) ai aq al := by
  intro d
  induction d with
  | zero =>
    intro x aq hx HQ
    have e1 : x = 128 := by omega
    subst e1
    exact pk_le 128 128 (fun _ => nm_r (nI_1 c) (K aq (kd_wr_e HQ))) (fun z => absurd z (by omega))
  | succ d ih =>
    intro x aq hx HQ
    obtain ⟨h1, h2, _⟩ := kd_y1 HG hg hc
    obtain ⟨h3, h4⟩ := kd_y0 HQ (c := x) (by omega)
    rw [kd_wr_at] at h4
    have hq : kd_qs sg sf (c + 1) x = (kd_qs sg sf c x && (!sg c || kd_Q sf c x)) := rfl
    have put : ∀ b : Bool, kd_qs sg sf (c + 1) x = b → ∀ aq' : Nat → Int32, aq' = upd aq (nI x).toNatClampNeg (vp_nar .boolean (kd_bI b)) → ∀ x4 : Int32, x4 = nI x + 1 → wY_work_52 post J (nI f) (nI g) (nI c) (d + 1) x4 ai aq' al := by
      intro b hb
      refine nm_r (e' := upd aq (0 + x) (kd_bI (kd_qs sg sf (c + 1) x))) ?_ (nm_r (nI_1 x) (ih (x + 1) _ (by omega) (kd_YAw HQ)))
      rw [nI_clamp (by omega), kd_bI_n, Nat.zero_add, hb]
    refine pk_le 128 x (fun z => absurd z (by omega)) (fun _ => And.intro h3 (kd_brb (kd_qs sg sf c x) h4 (fun hz => And.intro h3 ?_) (fun hz => And.intro h1 (kd_brb (sg c) h2 (fun hz2 => And.intro h3 ?_) (fun hz2 => kd_qH HF hf hc (by omega) (kd_brb _ rfl (fun hz3 => And.intro h3 ?_) (fun hz3 => And.intro h3 ?_)))))))
    · exact put false (by rw [hq, hz, Bool.false_and])
    · exact put true (by rw [hq, hz, hz2]; rfl)
    · exact put false (by rw [hq, hz, hz2, hz3]; rfl)
    · exact put true (by rw [hq, hz, hz2, hz3]; rfl)
theorem kd_w42 {post : SY → Prop} {f g : Nat} {sf sg : Nat → Bool} (HF : kd_YA ai (128 * f) sf) (HG : kd_YA ai (128 * g) sg) (HL : kd_YA al 0 sf) (hf : f < 4) (hg : g < 4) (K : ∀ aq' al', kd_YA aq' 0 (kd_qs sg sf 128) → kd_LF al' sf sg (kd_qs sg sf 128) 128 0 → post (ai, aq', al')) : ∀ (d c : Nat) (aq : Nat → Int32), c + d = 128 → kd_YA aq 0 (kd_qs sg sf c) → wY_work_42 post (nI f) (nI g) (d + 1) (nI c) ai aq al := by
  intro d
  induction d with
  | zero =>
    intro c aq hc HQ
    have e1 : c = 128 := by omega
    subst e1
    refine pk_le 128 128 (fun _ => ⟨128 + 1, kd_w122 (sf := sf) HG HQ hg (fun al' h => K aq al' HQ h) 128 0 al rfl ⟨sf, HL, fun y hy => ?_⟩⟩) (fun z => absurd z (by omega))
    constructor
    · intro z
      refine ⟨z, ?_⟩
      rintro ⟨c', x', h, _⟩
      omega
    · exact fun z => z.1
  | succ d ih =>
    intro c aq hc HQ
    refine pk_le 128 c (fun z => absurd z (by omega)) (fun _ => ⟨128 + 1, kd_w52 HF HG hf hg (by omega) (fun aq' h => ih (c + 1) aq' (by omega) h) 128 0 aq rfl ?_⟩)
    rw [kd_wr_0]; exact HQ
theorem kd_w2 {post : SY → Prop} {f g : Nat} {sf sg : Nat → Bool} (HF : kd_YA ai (128 * f) sf) (HG : kd_YA ai (128 * g) sg) (hf : f < 4) (hg : g < 4) (K : ∀ aq' al', kd_YA aq' 0 (kd_qs sg sf 128) → kd_LF al' sf sg (kd_qs sg sf 128) 128 0 → post (ai, aq', al')) : ∀ (d x : Nat) (aq al : Nat → Int32), x + d = 128 → kd_YP aq 0 (fun _ => true) x → kd_YP al 0 sf x → wY_work_2 post (nI f) (nI g) (d + 1) (nI x) ai aq al := by
  intro d
  induction d with
  | zero =>
    intro x aq al hx HQ HL
    have e1 : x = 128 := by omega
    subst e1
    exact pk_le 128 128 (fun _ => ⟨128 + 1, kd_w42 HF HG HL hf hg K 128 0 aq rfl HQ⟩) (fun z => absurd z (by omega))
  | succ d ih =>
    intro x aq al hx HQ HL
    obtain ⟨h1, h2, _⟩ := kd_y1 HF hf (c := x) (by omega)
    have hv : vp_in (nI x) 128 := vp_in_nI (by omega) (by decide)
    refine pk_le 128 x (fun z => absurd z (by omega)) (fun _ => And.intro hv (nm_r (e' := upd aq (0 + x) (kd_bI true)) ?_ (And.intro h1 (And.intro hv (nm_r (e' := upd al (0 + x) (kd_bI (sf x))) ?_ (nm_r (nI_1 x) (ih (x + 1) _ _ (by omega) (kd_YPu (s := fun _ => true) HQ) (kd_YPu HL))))))))
    · rw [nI_clamp (by omega), Nat.zero_add]; exact congrArg (upd aq x) (kd_bI_n true)
    · rw [h2, nI_clamp (by omega), Nat.zero_add, kd_bI_n]
theorem kd_work {post : SY → Prop} {f g : Nat} {sf sg : Nat → Bool} (HF : kd_YA ai (128 * f) sf) (HG : kd_YA ai (128 * g) sg) (hf : f < 4) (hg : g < 4) (K : ∀ aq' al', kd_YA aq' 0 (kd_qs sg sf 128) → kd_LF al' sf sg (kd_qs sg sf 128) 128 0 → post (ai, aq', al')) : wpY_work post (ai, aq, al) (nI f) (nI g) :=
  ⟨128 + 1, kd_w2 HF HG hf hg K 128 0 aq al rfl (fun c hc => absurd hc (Nat.not_lt_zero c)) (fun c hc => absurd hc (Nat.not_lt_zero c))⟩
end
end
section
/-! the same answers: lists against sets -/
theorem kd_dfa : ∀ c, c < 128 → ∀ a, a < 128 → kd_sub c a = true → kd_df a c + c = a := by decide +kernel
theorem kd_df_and (o c : Nat) : kd_df o c &&& c = 0 := by
  rw [kd_z_iff]; intro i
  rw [Nat.testBit_and, kd_dfT]
  cases o.testBit i <;> cases c.testBit i <;> rfl
theorem kd_df_or {o c : Nat} (h : kd_sub c o = true) : kd_df o c ||| c = o := by
  rw [kd_sub_iff] at h
  apply Nat.eq_of_testBit_eq; intro i
  rw [Nat.testBit_or, kd_dfT]
  cases hc : c.testBit i
  · cases o.testBit i <;> rfl
  · rw [h i hc]; rfl
theorem kd_or_df {x c : Nat} (h : x &&& c = 0) : kd_df (x ||| c) c = x := by
  rw [kd_z_iff] at h
  apply Nat.eq_of_testBit_eq; intro i
  have := h i
  rw [Nat.testBit_and] at this
  rw [kd_dfT, Nat.testBit_or]
  cases hx : x.testBit i <;> cases hc : c.testBit i
  · rfl
  · rfl
  · rfl
  · rw [hx, hc] at this; exact absurd this (by decide)
theorem kd_Q_iff {s : Nat → Bool} {c x : Nat} : kd_Q s c x = true ↔ x &&& c = 0 ∧ s (x ||| c) = true := by
  rw [kd_Q, Bool.and_eq_true, beq_iff_eq]
theorem kd_qb_mem {s : Nat → Bool} {c x : Nat} (hc : c < 128) : x ∈ kd_qb c (kd_ls s) ↔ x < 128 ∧ kd_Q s c x = true := by
  rw [kd_qb, List.mem_map, kd_Q_iff]
  constructor
  · rintro ⟨o, ho, rfl⟩
    obtain ⟨h1, h2⟩ := List.mem_filter.mp ho
    obtain ⟨h3, h4⟩ := kd_lsm.mp h1
    exact ⟨kd_df_lt c h3, kd_df_and o c, by rw [kd_df_or h2]; exact h4⟩
  · rintro ⟨h1, h2, h3⟩
    exact ⟨x ||| c, List.mem_filter.mpr ⟨kd_lsm.mpr ⟨kd_or_lt h1 hc, h3⟩, kd_sub_or c x⟩, kd_or_df h2⟩
theorem kd_qb_srt {l : List Nat} {c : Nat} (hc : c < 128) (hl : ∀ x, x ∈ l → x < 128) (srt : l.Pairwise (· < ·)) : (kd_qb c l).Pairwise (· < ·) := by
  rw [kd_qb, List.pairwise_map]
  refine List.Pairwise.imp_of_mem (fun {a b} ha hb hab => ?_) (List.Pairwise.filter (kd_sub c) srt)
  obtain ⟨a1, a2⟩ := List.mem_filter.mp ha
  obtain ⟨b1, b2⟩ := List.mem_filter.mp hb
  have e1 := kd_dfa c hc a (hl a a1) a2
  have e2 := kd_dfa c hc b (hl b b1) b2
  omega
theorem kd_ls_lt {s : Nat → Bool} : ∀ x, x ∈ kd_ls s → x < 128 := fun _ hx => (kd_lsm.mp hx).1
theorem kd_L3 {s : Nat → Bool} {c : Nat} (hc : c < 128) : kd_qb c (kd_ls s) = kd_ls (kd_Q s c) :=
  kd_unil (kd_qb_srt hc kd_ls_lt (kd_lss s)) (fun _ => kd_qb_mem hc)
theorem kd_qs_iff {sg sf : Nat → Bool} {x : Nat} : ∀ {n : Nat}, kd_qs sg sf n x = true ↔ ∀ c, c < n → sg c = true → kd_Q sf c x = true := by
  intro n
  induction n with
  | zero => exact ⟨fun _ c hc => absurd hc (Nat.not_lt_zero c), fun _ => rfl⟩
  | succ n ih =>
    show (kd_qs sg sf n x && (!sg n || kd_Q sf n x)) = true ↔ _
    rw [Bool.and_eq_true, ih]
    constructor
    · intro h c hc hg
      by_cases e : c = n
      · rw [e] at hg ⊢
        have := h.2
        rw [hg] at this
        exact this
      · exact h.1 c (by omega) hg
    · intro h
      refine ⟨fun c hc => h c (by omega), ?_⟩
      cases hg : sg n
      · rfl
      · exact h n (by omega) hg
theorem kd_lt_and {x : Nat} : ∀ {l : List Nat} {a : Nat}, x &&& l.foldl (fun a c => a ||| c) a = 0 ↔ x &&& a = 0 ∧ ∀ g, g ∈ l → x &&& g = 0 := by
  intro l
  induction l with
  | nil => intro a; exact ⟨fun h => ⟨h, fun g hg => absurd hg List.not_mem_nil⟩, fun h => h.1⟩
  | cons c l ih =>
    intro a
    rw [List.foldl_cons, ih, Nat.and_or_distrib_left, Nat.or_eq_zero_iff]
    constructor
    · intro h
      refine ⟨h.1.1, fun g hg => ?_⟩
      rcases List.mem_cons.mp hg with e | hg
      · rw [e]; exact h.1.2
      · exact h.2 g hg
    · intro h
      exact ⟨⟨h.1, h.2 c List.mem_cons_self⟩, fun g hg => h.2 g (List.mem_cons_of_mem _ hg)⟩
theorem kd_G_iff {lf lg : List Nat} {x : Nat} : kd_G lf lg x = true ↔ ∀ g, g ∈ lg → x &&& g = 0 ∧ (x ||| g) ∈ lf := by
  rw [kd_G, Bool.and_eq_true, beq_iff_eq, kd_lt, kd_lt_and, kd_gd, List.all_eq_true]
  constructor
  · intro h g hg
    exact ⟨h.1.2 g hg, of_decide_eq_true (h.2 g hg)⟩
  · intro h
    exact ⟨⟨Nat.and_zero x, fun g hg => (h g hg).1⟩, fun g hg => decide_eq_true (h g hg).2⟩
theorem kd_L1 {sf sg : Nat → Bool} (hne : kd_ls sg ≠ []) : kd_qt (kd_ls sf) (kd_ls sg) = kd_ls (kd_qs sg sf 128) := by
  obtain ⟨g0, gr, hg0⟩ := List.exists_cons_of_ne_nil hne
  have hd : (kd_ls sg).headD 0 = g0 := by rw [hg0]; rfl
  have hm : g0 ∈ kd_ls sg := by rw [hg0]; exact List.mem_cons_self
  have hg := kd_lsm.mp hm
  rw [kd_qt, hd, kd_L3 hg.1]
  refine kd_unil (List.Pairwise.filter _ (kd_lss _)) (fun x => ?_)
  rw [List.mem_filter, kd_lsm, kd_G_iff, kd_qs_iff]
  constructor
  · intro h
    refine ⟨h.1.1, fun c hc hs => ?_⟩
    obtain ⟨h1, h2⟩ := h.2 c (kd_lsm.mpr ⟨hc, hs⟩)
    exact kd_Q_iff.mpr ⟨h1, (kd_lsm.mp h2).2⟩
  · intro h
    refine ⟨⟨h.1, h.2 g0 hg.1 hg.2⟩, fun g hgm => ?_⟩
    obtain ⟨a, b⟩ := kd_lsm.mp hgm
    obtain ⟨c, d⟩ := kd_Q_iff.mp (h.2 g a b)
    exact ⟨c, kd_lsm.mpr ⟨kd_or_lt h.1 a, d⟩⟩
theorem kd_L2 {sf sg r : Nat → Bool} (hr : ∀ y, y < 128 → (r y = true ↔ sf y = true ∧ ¬ kd_hit sg (kd_qs sg sf 128) 128 0 y)) : kd_rm (kd_ls sf) (kd_ls sg) (kd_ls (kd_qs sg sf 128)) = kd_ls r := by
  refine kd_unil (List.Pairwise.filter _ (kd_lss _)) (fun o => ?_)
  rw [kd_rm, List.mem_filter, kd_lsm]
  have key : o < 128 → (kd_pr (kd_ls sg) (kd_ls (kd_qs sg sf 128)) o = true ↔ kd_hit sg (kd_qs sg sf 128) 128 0 o) := by
    intro ho
    rw [kd_pr, List.any_eq_true]
    constructor
    · rintro ⟨g, hg, h⟩
      rw [Bool.and_eq_true, decide_eq_true_iff] at h
      obtain ⟨a, b⟩ := kd_lsm.mp hg
      obtain ⟨c, d⟩ := kd_lsm.mp h.2
      exact ⟨g, kd_df o g, Or.inl ⟨a, c⟩, b, d, kd_df_or h.1⟩
    · rintro ⟨g, x, h, h1, h2, h3⟩
      have hgx : g < 128 ∧ x < 128 := by omega
      refine ⟨g, kd_lsm.mpr ⟨hgx.1, h1⟩, ?_⟩
      have hd := (kd_Q_iff.mp (kd_qs_iff.mp h2 g hgx.1 h1)).1
      rw [← h3, kd_sub_or, kd_or_df hd, Bool.true_and, decide_eq_true_iff]
      exact kd_lsm.mpr ⟨hgx.2, h2⟩
  constructor
  · intro h
    refine ⟨h.1.1, (hr o h.1.1).mpr ⟨h.1.2, fun z => ?_⟩⟩
    have := (key h.1.1).mpr z
    have h2 := h.2
    rw [this] at h2
    exact absurd h2 (by decide)
  · intro h
    obtain ⟨a, b⟩ := (hr o h.1).mp h.2
    refine ⟨⟨h.1, a⟩, ?_⟩
    cases e : kd_pr (kd_ls sg) (kd_ls (kd_qs sg sf 128)) o
    · rfl
    · exact absurd ((key h.1).mp e) b
theorem kd_flq {s : Nat → Bool} {c : Nat} (hc : c < 128) : ((kd_ls s).filter (kd_sub c)).length = (kd_ls (kd_Q s c)).length := by
  rw [← kd_L3 hc, kd_qb, List.length_map]
theorem kd_L4 {s : Nat → Bool} {c : Nat} (hc : c < 128) : kd_ok (kd_ls s) c = kd_yG s c := by
  rw [kd_ok, kd_yG, kd_flq hc]
  by_cases h2 : 2 ≤ (kd_ls (kd_Q s c)).length
  · rw [decide_eq_true h2, Bool.true_and, Bool.true_and, Bool.eq_iff_iff, beq_iff_eq, beq_iff_eq]
    have hlen : 2 ≤ ((kd_ls s).filter (kd_sub c)).length := by rw [kd_flq hc]; exact h2
    rw [← kd_L3 hc]
    have hle : kd_le c (kd_an ((kd_ls s).filter (kd_sub c))) := by
      intro i hi
      rw [kd_an_iff]
      exact ⟨kd_tb7' hc hi, fun x hx => kd_sub_iff.mp (List.mem_filter.mp hx).2 i hi⟩
    constructor
    · intro h
      rw [kd_z_iff]
      intro i
      cases e : (kd_an (kd_qb c (kd_ls s))).testBit i
      · rfl
      · obtain ⟨a, b⟩ := kd_an_iff.mp e
        have hall : ∀ o, o ∈ (kd_ls s).filter (kd_sub c) → o.testBit i = true ∧ c.testBit i = false := by
          intro o ho
          have := b (kd_df o c) (List.mem_map.mpr ⟨o, ho, rfl⟩)
          rw [kd_dfT, Bool.and_eq_true, Bool.not_eq_true'] at this
          exact this
        obtain ⟨o, ho⟩ := List.exists_mem_of_length_pos (l := (kd_ls s).filter (kd_sub c)) (by omega)
        have hci := (hall o ho).2
        have : c.testBit i = true := by
          rw [← h, kd_an_iff]
          exact ⟨a, fun x hx => (hall x hx).1⟩
        rw [hci] at this
        exact absurd this (by decide)
    · intro h
      refine kd_le_a (fun i hi => ?_) hle
      cases e : c.testBit i
      · obtain ⟨a, b⟩ := kd_an_iff.mp hi
        have : (kd_an (kd_qb c (kd_ls s))).testBit i = true := by
          rw [kd_an_iff]
          refine ⟨a, fun x hx => ?_⟩
          obtain ⟨o, ho, rfl⟩ := List.mem_map.mp hx
          rw [kd_dfT, b o ho, e]; rfl
        rw [h, Nat.zero_testBit] at this
        exact absurd this (by decide)
      · rfl
  · rw [decide_eq_false h2, Bool.false_and, Bool.false_and]
theorem kd_yS_iff {s : Nat → Bool} {c d : Nat} : kd_yS s c d = true ↔ ∀ x, x < 128 → kd_Q s c x = kd_Q s d x := by
  rw [kd_yS, List.all_eq_true]
  constructor
  · intro h x hx
    exact beq_iff_eq.mp (h x (List.mem_range'_1.mpr (by omega)))
  · intro h x hx
    have := List.mem_range'_1.mp hx
    exact beq_iff_eq.mpr (h x (by omega))
theorem kd_L5 {s : Nat → Bool} {c d : Nat} (hc : c < 128) (hd : d < 128) : kd_sk (kd_ls s) c d = kd_yS s c d := by
  rw [kd_sk, kd_flq hc, kd_flq hd, Bool.eq_iff_iff, Bool.and_eq_true, beq_iff_eq, kd_yS_iff, List.all_eq_true]
  have key : (∀ o, o ∈ kd_ls s → kd_tk (kd_ls s) c d o = true) ↔ ∀ x, x < 128 → kd_Q s c x = true → kd_Q s d x = true := by
    constructor
    · intro h x hx hq
      obtain ⟨h1, h2⟩ := kd_Q_iff.mp hq
      have := h (x ||| c) (kd_lsm.mpr ⟨kd_or_lt hx hc, h2⟩)
      rw [kd_tk, kd_sub_or, kd_or_df h1, Bool.not_true, Bool.false_or, Bool.and_eq_true, beq_iff_eq, decide_eq_true_iff] at this
      exact kd_Q_iff.mpr ⟨this.1, (kd_lsm.mp this.2).2⟩
    · intro h o ho
      obtain ⟨h1, h2⟩ := kd_lsm.mp ho
      rw [kd_tk]
      cases e : kd_sub c o
      · rfl
      · have hx := kd_df_lt c h1
        have := h (kd_df o c) hx (kd_Q_iff.mpr ⟨kd_df_and o c, by rw [kd_df_or e]; exact h2⟩)
        obtain ⟨a, b⟩ := kd_Q_iff.mp this
        rw [Bool.not_true, Bool.false_or, Bool.and_eq_true, beq_iff_eq, decide_eq_true_iff]
        exact ⟨a, kd_lsm.mpr ⟨kd_or_lt hx hd, b⟩⟩
  rw [key]
  constructor
  · rintro ⟨hl, h⟩ x hx
    have e1 : (kd_ls (kd_Q s d)).filter (kd_Q s c) = kd_ls (kd_Q s c) := by
      refine kd_unil (List.Pairwise.filter _ (kd_lss _)) (fun y => ?_)
      rw [List.mem_filter, kd_lsm]
      constructor
      · intro z; exact ⟨z.1.1, z.2⟩
      · intro z; exact ⟨⟨z.1, h y z.1 z.2⟩, z.2⟩
    have e2 : (kd_ls (kd_Q s d)).filter (kd_Q s c) = kd_ls (kd_Q s d) :=
      List.Sublist.eq_of_length List.filter_sublist (by rw [e1, hl])
    have e3 : kd_ls (kd_Q s c) = kd_ls (kd_Q s d) := by rw [← e1, e2]
    rw [Bool.eq_iff_iff]
    have m : x ∈ kd_ls (kd_Q s c) ↔ x ∈ kd_ls (kd_Q s d) := by rw [e3]
    rw [kd_lsm, kd_lsm] at m
    exact ⟨fun z => (m.mp ⟨hx, z⟩).2, fun z => (m.mpr ⟨hx, z⟩).2⟩
  · intro h
    refine ⟨?_, fun x hx z => by rw [← h x hx]; exact z⟩
    rw [kd_lsc h]
/-- c is the first with its quotient -/
def kd_yF (s : Nat → Bool) (c d k : Nat) : Bool := (List.range' d k).all (fun d => !kd_yS s c d)
theorem kd_L6 {s : Nat → Bool} {c : Nat} (hc : c < 128) : (kd_ok (kd_ls s) c && kd_ff (kd_ls s) c 0 c) = (kd_yG s c && kd_yF s c 0 c) := by
  rw [kd_L4 hc]
  cases e : kd_yG s c
  · rfl
  · rw [Bool.true_and, Bool.true_and, kd_ff, kd_yF, Bool.eq_iff_iff, List.all_eq_true, List.all_eq_true]
    have key : ∀ d, d < c → (kd_ok (kd_ls s) d && kd_sk (kd_ls s) c d) = kd_yS s c d := by
      intro d hd
      rw [kd_L5 hc (by omega), kd_L4 (by omega)]
      cases ey : kd_yS s c d
      · exact Bool.and_false _
      · have hl : kd_ls (kd_Q s c) = kd_ls (kd_Q s d) := kd_lsc (kd_yS_iff.mp ey)
        have : kd_yG s d = kd_yG s c := by rw [kd_yG, kd_yG, hl]
        rw [this, e]; rfl
    constructor
    · intro h d hd
      have hdc := List.mem_range'_1.mp hd
      have := h d hd
      rw [key d (by omega)] at this
      exact this
    · intro h d hd
      have hdc := List.mem_range'_1.mp hd
      have := h d hd
      rw [← key d (by omega)] at this
      exact this
theorem kd_flc {s t : Nat → Bool} {c d : Nat} (h : ∀ x, c ≤ x → x < c + d → s x = t x) : kd_fl s c d = kd_fl t c d := by
  unfold kd_fl
  apply List.filter_congr
  intro x hx
  have := List.mem_range'_1.mp hx
  exact h x this.1 this.2
theorem kd_fla (s : Nat → Bool) (c a b : Nat) : kd_fl s c (a + b) = kd_fl s c a ++ kd_fl s (c + a) b := by
  unfold kd_fl
  rw [← List.filter_append, List.range'_append_1]
theorem kd_fln {s : Nat → Bool} {c d : Nat} (h : ∀ x, c ≤ x → x < c + d → s x = false) : kd_fl s c d = [] := by
  rw [kd_flc (t := fun _ => false) h]
  unfold kd_fl
  exact List.filter_eq_nil_iff.mpr (fun _ _ => by decide)
end
section
/-! the reference's counts of kernels, and its saving -/
def kd_w (b : Bool) (w : Int32) : Int32 := cond b w 0
theorem kd_brp {x w z : Int32} {F : Int32 → Prop} (b : Bool) (hx : x = kd_bI b) (h : F (z + kd_w b w)) : (x = 0 → F z) ∧ (¬ x = 0 → F (z + w)) := by
  refine kd_brb b hx (fun hb => ?_) (fun hb => ?_)
  · rw [hb] at h
    have e : z + kd_w false w = z := Int32.add_zero z
    rw [e] at h; exact h
  · rw [hb] at h; exact h
theorem kd_brm {x w z : Int32} {F : Int32 → Prop} (b : Bool) (hx : x = kd_bI b) (h : F (z - kd_w b w)) : (x = 0 → F z) ∧ (¬ x = 0 → F (z - w)) := by
  refine kd_brb b hx (fun hb => ?_) (fun hb => ?_)
  · rw [hb] at h
    have e : z - kd_w false w = z := Int32.sub_zero z
    rw [e] at h; exact h
  · rw [hb] at h; exact h
theorem kd_ring (z a b c d A B C D : Int32) : z + (a + A) - (b + B) - (c + C) - (d + D) = ((((z + a) - b) - c) - d) + A - B - C - D := by grind
theorem kd_smf {s : Nat → Bool} {c d : Nat} (hc : c < 128) : nI (kd_sm (kd_fl s c (d + 1))) = kd_w (s c) (nI (kd_os c 0 7)) + nI (kd_sm (kd_fl s (c + 1) d)) := by
  cases e : s c
  · rw [kd_flf d e]
    exact (Int32.zero_add _).symm
  · rw [kd_flt d e]
    show nI (kd_os c 0 8 + kd_sm (kd_fl s (c + 1) d)) = nI (kd_os c 0 7) + _
    rw [kd_os87 hc, nI_add]
section
variable {ai aq al : Nat → Int32} {e : Nat} {s : Nat → Bool}
theorem kd_yk30 {post : Int32 → Prop} {J : Int32 → Int32 → Prop} {c : Nat} {x2 : Int32} (H : kd_YA ai (128 * e) s) (he : e < 4) (hc : c < 128) : ∀ (k d : Nat) (b : Bool), d + k = c → wY_kernels_65 post J (nI e) x2 (nI c) (kd_bI (b && kd_yF s c d k)) ai aq al → wY_kernels_30 post J (nI e) x2 (nI c) ai aq al (k + 1) (kd_bI b) (nI d) := by
  intro k
  induction k with
  | zero =>
    intro d b hd h
    have e1 : (b && kd_yF s c d 0) = b := Bool.and_true b
    rw [e1] at h
    exact pk_le c d (fun _ => h) (fun z => absurd z (by omega))
  | succ k ih =>
    intro d b hd h
    have e1 : kd_yF s c d (k + 1) = (!kd_yS s c d && kd_yF s c (d + 1) k) := by
      unfold kd_yF; rw [List.range'_succ, List.all_cons]
    rw [e1] at h
    refine pk_le c d (fun z => absurd z (by omega)) (fun _ => kd_brb b rfl (fun hz => ?_) (fun hz => kd_same H he hc (by omega) (kd_brb _ rfl (fun hs => ?_) (fun hs => ?_))))
    · rw [hz, Bool.false_and] at h
      rw [hz]; exact h
    · rw [hz, hs, Bool.true_and, Bool.not_false, Bool.true_and] at h
      refine nm_r (nI_1 d) (ih (d + 1) true (by omega) ?_)
      rw [Bool.true_and]; exact h
    · rw [hz, hs, Bool.true_and, Bool.not_true, Bool.false_and] at h
      refine nm_r (nI_1 d) (ih (d + 1) false (by omega) ?_)
      rw [Bool.false_and]; exact h
theorem kd_yk4 {post : Int32 → Prop} (H : kd_YA ai (128 * e) s) (he : e < 4) : ∀ d c a : Nat, c + d = 128 → post (nI (a + (kd_fl (fun c => kd_yG s c && kd_yF s c 0 c) c d).length)) → wY_kernels_4 post (nI e) ai aq al (d + 1) (nI a) (nI c) := by
  intro d
  induction d with
  | zero =>
    intro c a hc h
    exact pk_le 128 c (fun _ => kd_yE1 _ he (br_f (by decide) h)) (fun z => absurd z (by omega))
  | succ d ih =>
    intro c a hc h
    refine pk_le 128 c (fun z => absurd z (by omega)) (fun _ => kd_yE1 _ he (br_f (by decide) (kd_freeBy H he (by omega) ⟨c + 1, kd_yk30 H he (by omega) c 0 (kd_yG s c) (Nat.zero_add c) (kd_brb _ rfl (fun hz => ?_) (fun hz => ?_))⟩)))
    · rw [kd_flf (s := fun c => kd_yG s c && kd_yF s c 0 c) d hz] at h
      exact nm_r (nI_1 c) (ih (c + 1) a (by omega) h)
    · rw [kd_flt (s := fun c => kd_yG s c && kd_yF s c 0 c) d hz, List.length_cons, show a + ((kd_fl (fun c => kd_yG s c && kd_yF s c 0 c) (c + 1) d).length + 1) = a + 1 + (kd_fl (fun c => kd_yG s c && kd_yF s c 0 c) (c + 1) d).length from by omega] at h
      exact nm_r (nI_1 a) (nm_r (nI_1 c) (ih (c + 1) (a + 1) (by omega) h))
theorem kd_yc4 {post : Int32 → Prop} (H : kd_YA ai (128 * e) s) (he : e < 4) : ∀ d c a : Nat, c + d = 128 → post (nI (a + (kd_fl (kd_yG s) c d).length)) → wY_cokernels_4 post (nI e) ai aq al (d + 1) (nI a) (nI c) := by
  intro d
  induction d with
  | zero =>
    intro c a hc h
    exact pk_le 128 c (fun _ => kd_yE1 _ he (br_f (by decide) h)) (fun z => absurd z (by omega))
  | succ d ih =>
    intro c a hc h
    refine pk_le 128 c (fun z => absurd z (by omega)) (fun _ => kd_yE1 _ he (br_f (by decide) (kd_freeBy H he (by omega) (kd_brb _ rfl (fun hz => ?_) (fun hz => ?_)))))
    · rw [kd_flf d hz] at h
      exact nm_r (nI_1 c) (ih (c + 1) a (by omega) h)
    · rw [kd_flt d hz, List.length_cons, show a + ((kd_fl (kd_yG s) (c + 1) d).length + 1) = a + 1 + (kd_fl (kd_yG s) (c + 1) d).length from by omega] at h
      exact nm_r (nI_1 a) (nm_r (nI_1 c) (ih (c + 1) (a + 1) (by omega) h))
/-- the reference's search begins at 0 and passes what is below v -/
def kd_yN (s : Nat → Bool) (v : Int32) (c : Nat) : Bool := !decide (nI c < v) && kd_yG s c
theorem kd_yn2 {post : Int32 → Prop} {v : Int32} (H : kd_YA ai (128 * e) s) (he : e < 4) : ∀ d c : Nat, c + d = 128 → post (kd_hd (kd_fl (kd_yN s v) c d)) → wY_nextCokernel_2 post (nI e) v ai aq al (d + 1) (nI c) := by
  intro d
  induction d with
  | zero =>
    intro c hc h
    exact pk_le 128 c (fun _ => h) (fun z => absurd z (by omega))
  | succ d ih =>
    intro c hc h
    refine pk_le 128 c (fun z => absurd z (by omega)) (fun _ => kd_yE1 _ he (br_f (by decide) (br_c (fun hv => ?_) (fun hv => kd_freeBy H he (by omega) (kd_brb _ rfl (fun hz => ?_) (fun hz => ?_))))))
    · rw [kd_flf (s := kd_yN s v) d (by rw [kd_yN, decide_eq_true hv]; rfl)] at h
      exact nm_r (nI_1 c) (ih (c + 1) (by omega) h)
    · rw [kd_flf (s := kd_yN s v) d (by rw [kd_yN, hz, Bool.and_false])] at h
      exact nm_r (nI_1 c) (ih (c + 1) (by omega) h)
    · rw [kd_flt (s := kd_yN s v) d (by rw [kd_yN, decide_eq_false hv, hz]; rfl)] at h
      exact h
theorem kd_ys22 {post : Int32 → SY → Prop} {g : Nat} {sg q r : Nat → Bool} (H : kd_YA ai (128 * e) s) (HG : kd_YA ai (128 * g) sg) (HQ : kd_YA aq 0 q) (HL : kd_YA al 0 r) (he : e < 4) (hg : g < 4) : ∀ (d c : Nat) (z : Int32), c + d = 128 → post (z + nI (kd_sm (kd_fl s c d)) - nI (kd_sm (kd_fl q c d)) - nI (kd_sm (kd_fl r c d)) - nI (kd_sm (kd_fl sg c d))) (ai, aq, al) → wY_saving_22 post (nI e) (nI g) ai aq al (d + 1) z (nI c) := by
  intro d
  induction d with
  | zero =>
    intro c z hc h
    have e1 : z + nI (kd_sm (kd_fl s c 0)) - nI (kd_sm (kd_fl q c 0)) - nI (kd_sm (kd_fl r c 0)) - nI (kd_sm (kd_fl sg c 0)) = z := by
      show z + nI 0 - nI 0 - nI 0 - nI 0 = z
      rw [nI_0, Int32.add_zero, Int32.sub_zero, Int32.sub_zero, Int32.sub_zero]
    rw [e1] at h
    exact pk_le 128 c (fun _ => h) (fun w => absurd w (by omega))
  | succ d ih =>
    intro c z hc h
    have hc' : c < 128 := by omega
    obtain ⟨h1, h2, _⟩ := kd_y1 H he hc'
    obtain ⟨g1, g2, _⟩ := kd_y1 HG hg hc'
    obtain ⟨q1, q2⟩ := kd_y0 HQ hc'
    obtain ⟨l1, l2⟩ := kd_y0 HL hc'
    rw [kd_smf hc', kd_smf hc', kd_smf hc', kd_smf hc', kd_ring] at h
    have fin := ih (c + 1) _ (by omega) h
    refine pk_le 128 c (fun w => absurd w (by omega)) (fun _ => kd_letters (by omega) (And.intro h1 ?_))
    refine kd_brp (F := fun z => wY_saving_62 post (wY_saving_22 post (nI e) (nI g) ai aq al (d + 1)) (nI e) (nI g) (nI c) (nI (kd_os c 0 7)) z ai aq al) (s c) h2 ?_
    refine And.intro q1 (kd_brm (F := fun z => wY_saving_81 post (wY_saving_22 post (nI e) (nI g) ai aq al (d + 1)) (nI e) (nI g) (nI c) (nI (kd_os c 0 7)) z ai aq al) (q c) q2 ?_)
    refine And.intro l1 (kd_brm (F := fun z => wY_saving_100 post (wY_saving_22 post (nI e) (nI g) ai aq al (d + 1)) (nI e) (nI g) (nI c) (nI (kd_os c 0 7)) z ai aq al) (r c) l2 ?_)
    refine And.intro g1 (kd_brb (sg c) g2 (fun hb => ?_) (fun hb => ?_))
    · rw [hb] at fin
      refine nm_r (nI_1 c) ?_
      have e1 : ∀ y : Int32, y - kd_w false (nI (kd_os c 0 7)) = y := fun y => Int32.sub_zero y
      rw [e1] at fin
      exact fin
    · rw [hb] at fin
      exact nm_e (nm_r (nI_1 c) fin)
end
end
section
/-! the relation, and the calls on rows -/
/-- row e of the component holds, in order, the cubes that the reference's row e has -/
def i_Rel (_ : Nat) (u : SX) (v : SY) : Prop := ∃ S : Nat → Nat → Bool, kd_XS u.2.2.1 u.2.2.2.1 (fun e => kd_ls (S e)) ∧ kd_YS v.1 S
theorem i_up {k : Nat} {u : SX} {v : SY} (h : i_Rel k u v) : i_Rel (k + 4) u v := h
theorem i_vc0 : wpX_init (fun u => wpY_init (fun v => i_Rel 0 u v)) := by
  have e : kd_ls (fun _ => false) = [] := by
    apply List.eq_nil_iff_forall_not_mem.mpr
    intro x hx
    exact absurd (kd_lsm.mp hx).2 (by decide)
  refine ⟨fun _ _ => false, fun k hk => ?_, fun k hk c hc => rfl⟩
  show kd_RW _ _ k (kd_ls (fun _ => false)) ∧ (kd_ls (fun _ => false)).Pairwise (· < ·)
  rw [e]
  exact ⟨⟨rfl, by decide, fun x hx => absurd hx List.not_mem_nil, trivial⟩, List.Pairwise.nil⟩
theorem kd_E (x : Int32) : (x < 0 ∨ nI 4 ≤ x) ∨ ∃ e : Nat, e < 4 ∧ x = nI e := by
  rcases pk_ix x (n := 4) (by decide) with h | h | h
  · exact Or.inl (Or.inl h)
  · exact Or.inl (Or.inr h)
  · exact Or.inr h
theorem kd_C (x : Int32) : (x < 0 ∨ nI 128 ≤ x) ∨ ∃ c : Nat, c < 128 ∧ x = nI c := by
  rcases pk_ix x (n := 128) (by decide) with h | h | h
  · exact Or.inl (Or.inl h)
  · exact Or.inl (Or.inr h)
  · exact Or.inr h
theorem kd_uL_id (L : Nat → List Nat) (e : Nat) : kd_uL L e (L e) = L := by
  funext k
  by_cases h : k = e
  · rw [h, kd_uL_s]
  · rw [kd_uL_n h]
section
variable {k : Nat} {fm fw : Int32} {sz cb md ck ho wc wl : Nat → Int32} {ai aq al : Nat → Int32} {S : Nat → Nat → Bool} {e : Nat}
theorem kd_rel (HX : kd_XS sz cb (fun e => kd_ls (S e))) (HY : kd_YS ai S) : i_Rel k (fm, fw, sz, cb, md, ck, ho, wc, wl) (ai, aq, al) := ⟨S, HX, HY⟩
theorem kd_relu {l : List Nat} {s : Nat → Bool} (he : e < 4) (hl : ∀ x, x ∈ l ↔ x < 128 ∧ s x = true) (HX : kd_XS sz cb (kd_uL (fun e => kd_ls (S e)) e l)) (HY : kd_YS ai (kd_uS S e s)) : i_Rel k (fm, fw, sz, cb, md, ck, ho, wc, wl) (ai, aq, al) := by
  refine ⟨kd_uS S e s, fun j hj => ?_, HY⟩
  have := HX j hj
  by_cases h : j = e
  · subst h
    rw [kd_uL_s] at this
    show kd_RW sz cb j (kd_ls (kd_uS S j s j)) ∧ (kd_ls (kd_uS S j s j)).Pairwise (· < ·)
    rw [kd_uS_s, ← kd_unil this.2 hl]
    exact this
  · rw [kd_uL_n h] at this
    show kd_RW sz cb j (kd_ls (kd_uS S e s j)) ∧ (kd_ls (kd_uS S e s j)).Pairwise (· < ·)
    rw [kd_uS_n h]
    exact this
theorem kd_yput {post : Int32 → SY → Prop} {c : Nat} (HY : kd_YS ai S) (he : e < 4) (hc : c < 128) (h1 : S e c = true ∨ (kd_ls (S e)).length < 8 → ∀ ai', kd_YS ai' (kd_uS S e (fun x => if x = c then true else S e x)) → post 1 (ai', aq, al)) (h0 : S e c = false → 8 ≤ (kd_ls (S e)).length → post 0 (ai, aq, al)) : wpY_put post (ai, aq, al) (nI e) (nI c) := by
  obtain ⟨a1, a2, a3⟩ := kd_y1 (HY e he) he hc
  have fin : (S e c = true ∨ (kd_ls (S e)).length < 8) → wY_put_43 post (nI e) (nI c) ai aq al := by
    intro h
    refine And.intro a1 (nm_r (e' := upd ai (128 * e + c) (kd_bI true)) ?_ (h1 h _ (kd_YSu hc HY)))
    rw [a3]; exact congrArg (upd ai (128 * e + c)) (kd_bI_n true)
  have hlen : (kd_ls (S e)).length ≤ 128 := kd_len128 (kd_nd (kd_lss _)) kd_ls_lt
  unfold wpY_put
  dsimp only
  refine kd_yE1 _ he (br_f (by decide) (kd_yC1 _ hc (br_f (by decide) (And.intro a1 (kd_brb (S e c) a2 (fun hz => kd_many (HY e he) he (pk_lt (kd_ls (S e)).length 8 (fun h => ?_) (fun h => ?_))) (fun hz => ?_))))))
  · exact fin (Or.inr h)
  · exact h0 hz h
  · exact fin (Or.inl hz)
end
theorem i_vc_put {k : Nat} {u : SX} {v : SY} (I : i_Rel k u v) (hk : k + 4 ≤ 2048) (v1 : Int32) (v2 : Int32) : wpX_put (fun r u' => wpY_put (fun r' v' => r' = r ∧ i_Rel (k + 4) u' v') v v1 v2) u v1 v2 := by
  obtain ⟨fm, fw, sz, cb, md, ck, ho, wc, wl⟩ := u
  obtain ⟨ai, aq, al⟩ := v
  obtain ⟨S, HX, HY⟩ := I
  have HX : kd_XS sz cb (fun e => kd_ls (S e)) := HX
  have HY : kd_YS ai S := HY
  rcases kd_E v1 with hE | ⟨e, he, rfl⟩
  · unfold wpX_put
    dsimp only
    refine kd_isE0 hE (br_t rfl ?_)
    unfold wpY_put
    dsimp only
    exact kd_yE0 _ hE (br_t rfl ⟨rfl, kd_rel HX HY⟩)
  rcases kd_C v2 with hC | ⟨c, hc, rfl⟩
  · unfold wpX_put
    dsimp only
    refine kd_isE1 he (br_f (by decide) (kd_isC0 hC (br_t rfl ?_)))
    unfold wpY_put
    dsimp only
    exact kd_yE1 _ he (br_f (by decide) (kd_yC0 _ hC (br_t rfl ⟨rfl, kd_rel HX HY⟩)))
  · have hm : c ∈ kd_ls (S e) ↔ S e c = true := ⟨fun z => (kd_lsm.mp z).2, fun z => kd_lsm.mpr ⟨hc, z⟩⟩
    refine kd_put HX he hc (fun h => ?_) (fun h h8 => ?_) (fun h h8 sz' cb' l' hl HX' => ?_)
    · have hS := hm.mp h
      refine kd_yput HY he hc (fun _ ai' HY' => ⟨rfl, ?_⟩) (fun z => by rw [hS] at z; exact absurd z (by decide))
      refine kd_relu (l := kd_ls (S e)) he (fun x => ?_) (by rw [kd_uL_id (fun e => kd_ls (S e))]; exact HX) HY'
      rw [kd_lsm]
      by_cases hx : x = c
      · rw [hx, hS, if_pos rfl]
      · rw [if_neg hx]
    · have hS : S e c = false := by
        cases z : S e c
        · rfl
        · exact absurd (hm.mpr z) h
      refine kd_yput HY he hc (fun z => ?_) (fun _ _ => ⟨rfl, kd_rel HX HY⟩)
      rcases z with z | z
      · rw [hS] at z; exact absurd z (by decide)
      · exact absurd z (Nat.not_lt.mpr h8)
    · refine kd_yput HY he hc (fun _ ai' HY' => ⟨rfl, kd_relu he (fun x => ?_) HX' HY'⟩) (fun _ z => absurd z (Nat.not_le.mpr h8))
      rw [hl x, kd_lsm]
      by_cases hx : x = c
      · rw [hx, if_pos rfl]; exact ⟨fun _ => ⟨hc, rfl⟩, fun _ => Or.inl rfl⟩
      · rw [if_neg hx]
        exact ⟨fun z => z.resolve_left hx, Or.inr⟩
theorem i_vc_take {k : Nat} {u : SX} {v : SY} (I : i_Rel k u v) (hk : k + 4 ≤ 2048) (v1 : Int32) (v2 : Int32) : wpX_take (fun r u' => wpY_take (fun r' v' => r' = r ∧ i_Rel (k + 4) u' v') v v1 v2) u v1 v2 := by
  obtain ⟨fm, fw, sz, cb, md, ck, ho, wc, wl⟩ := u
  obtain ⟨ai, aq, al⟩ := v
  obtain ⟨S, HX, HY⟩ := I
  have HX : kd_XS sz cb (fun e => kd_ls (S e)) := HX
  have HY : kd_YS ai S := HY
  rcases kd_E v1 with hE | ⟨e, he, rfl⟩
  · unfold wpX_take
    dsimp only
    refine kd_isE0 hE (br_t rfl (br_f (by decide) ?_))
    unfold wpY_take
    dsimp only
    exact kd_yE0 _ hE (br_t rfl ⟨rfl, kd_rel HX HY⟩)
  rcases kd_C v2 with hC | ⟨c, hc, rfl⟩
  · refine kd_take HX he (fun _ => ?_) (fun c hcm hx => ?_)
    · unfold wpY_take
      dsimp only
      exact kd_yE1 _ he (br_f (by decide) (kd_yC0 _ hC (br_t rfl ⟨rfl, kd_rel HX HY⟩)))
    · have hc := kd_ls_lt c hcm
      rw [hx] at hC
      rcases hC with z | z
      · exact absurd z (nI_pos (by omega))
      · exact absurd z (nI_ge hc (by decide))
  · have hm : c ∈ kd_ls (S e) ↔ S e c = true := ⟨fun z => (kd_lsm.mp z).2, fun z => kd_lsm.mpr ⟨hc, z⟩⟩
    obtain ⟨a1, a2, a3⟩ := kd_y1 (HY e he) he hc
    refine kd_take HX he (fun h => ?_) (fun c' hcm hx sz' cb' l' hl HX' => ?_)
    · have hS : S e c = false := by
        cases z : S e c
        · rfl
        · exact absurd rfl (h c (hm.mpr z))
      unfold wpY_take
      dsimp only
      exact kd_yE1 _ he (br_f (by decide) (kd_yC1 _ hc (br_f (by decide) (And.intro a1 (br_t (a2.trans (kd_bI_0 hS)) ⟨rfl, kd_rel HX HY⟩)))))
    · have hc' := kd_ls_lt c' hcm
      have hcc : c = c' := (nI_eq (by omega) (by omega)).mp hx
      subst hcc
      have hS := hm.mp hcm
      unfold wpY_take
      dsimp only
      refine kd_yE1 _ he (br_f (by decide) (kd_yC1 _ hc (br_f (by decide) (And.intro a1 (br_f (by rw [a2]; exact kd_bI_1 hS) (And.intro a1 (nm_r (e' := upd ai (128 * e + c) (kd_bI false)) ?_ ⟨rfl, kd_relu he (fun x => ?_) HX' (kd_YSu hc HY)⟩)))))))
      · rw [a3]; exact congrArg (upd ai (128 * e + c)) (kd_bI_n false)
      · rw [hl x, kd_lsm]
        by_cases hx : x = c
        · rw [if_pos hx]
          exact ⟨fun z => absurd hx z.1, fun z => absurd z.2 (by decide)⟩
        · rw [if_neg hx]
          exact ⟨fun z => z.2, fun z => ⟨hx, z⟩⟩
theorem i_vc_clear {k : Nat} {u : SX} {v : SY} (I : i_Rel k u v) (hk : k + 4 ≤ 2048) (v1 : Int32) : wpX_clear (fun r u' => wpY_clear (fun r' v' => r' = r ∧ i_Rel (k + 4) u' v') v v1) u v1 := by
  obtain ⟨fm, fw, sz, cb, md, ck, ho, wc, wl⟩ := u
  obtain ⟨ai, aq, al⟩ := v
  obtain ⟨S, HX, HY⟩ := I
  have HX : kd_XS sz cb (fun e => kd_ls (S e)) := HX
  have HY : kd_YS ai S := HY
  unfold wpX_clear
  dsimp only
  rcases kd_E v1 with hE | ⟨e, he, rfl⟩
  · exact kd_isE0 hE (br_t rfl ⟨1, br_f (by decide) (kd_yE0 _ hE (br_t rfl (kd_yE0 _ hE (And.intro rfl ⟨rfl, kd_rel HX HY⟩))))⟩)
  · refine kd_isE1 he (br_f (by decide) (And.intro (vp_in_nI he (by decide)) (nm_r (e' := upd sz e (nI 0)) ?_ ?_)))
    · rw [nI_clamp (by omega)]; exact congrArg (upd sz e) (kd_nb (c := 0) (by decide))
    · have HX' := kd_XSu (cb' := cb) (e := e) (l := []) HX (by decide) (fun x hx => absurd hx List.not_mem_nil) trivial List.Pairwise.nil (fun k _ => rfl)
      refine ⟨128 + 1, kd_yclear_l he (fun ai' HY' => ⟨rfl, kd_relu he (fun x => ?_) HX' HY'⟩) 128 0 ai rfl (kd_YR0 HY)⟩
      exact ⟨fun z => absurd z List.not_mem_nil, fun z => absurd z.2 (by decide)⟩
theorem i_vc_size {k : Nat} {u : SX} {v : SY} (I : i_Rel k u v) (hk : k + 4 ≤ 2048) (v1 : Int32) : wpX_size (fun r => wpY_size (fun r' => r' = r ∧ i_Rel (k + 4) u v) v v1) u v1 := by
  obtain ⟨fm, fw, sz, cb, md, ck, ho, wc, wl⟩ := u
  obtain ⟨ai, aq, al⟩ := v
  obtain ⟨S, HX, HY⟩ := I
  have HX : kd_XS sz cb (fun e => kd_ls (S e)) := HX
  have HY : kd_YS ai S := HY
  unfold wpX_size wpY_size
  dsimp only
  rcases kd_E v1 with hE | ⟨e, he, rfl⟩
  · exact kd_isE0 hE (br_t rfl (kd_yE0 _ hE (br_t rfl ⟨rfl, kd_rel HX HY⟩)))
  · obtain ⟨hv, hs, h8⟩ := kd_rw0 (HX e he).1 he
    exact kd_isE1 he (br_f (by decide) (And.intro hv (kd_yE1 _ he (br_f (by decide) (kd_many (HY e he) he ⟨hs.symm, kd_rel HX HY⟩)))))
theorem i_vc_cube {k : Nat} {u : SX} {v : SY} (I : i_Rel k u v) (hk : k + 4 ≤ 2048) (v1 : Int32) (v2 : Int32) : wpX_cube (fun r => wpY_cube (fun r' => r' = r ∧ i_Rel (k + 4) u v) v v1 v2) u v1 v2 := by
  obtain ⟨fm, fw, sz, cb, md, ck, ho, wc, wl⟩ := u
  obtain ⟨ai, aq, al⟩ := v
  obtain ⟨S, HX, HY⟩ := I
  have HX : kd_XS sz cb (fun e => kd_ls (S e)) := HX
  have HY : kd_YS ai S := HY
  unfold wpX_cube wpY_cube
  dsimp only
  rcases kd_E v1 with hE | ⟨e, he, rfl⟩
  · exact kd_isE0 hE (br_t rfl ⟨1, br_f (by decide) (kd_yE0 _ hE (br_t rfl ⟨rfl, kd_rel HX HY⟩))⟩)
  · have HR : kd_RW sz cb e (kd_ls (S e)) := (HX e he).1
    obtain ⟨hv, hs, h8⟩ := kd_rw0 HR he
    refine kd_isE1 he (br_f (by decide) (br_c (fun hn => ?_) (fun hn => And.intro hv ?_)))
    · exact ⟨128 + 1, kd_ycube_n (HY e he) he hn ⟨rfl, kd_rel HX HY⟩ 128 0 0 rfl (Nat.le_refl 0)⟩
    · obtain ⟨j, hj, rfl⟩ := nI_of hn
      refine pk_le (kd_ls (S e)).length j (fun hle => ?_) (fun hlt => ?_) hs
      · refine ⟨128 + 1, kd_ycube_l (HY e he) he hj 128 0 0 rfl (Nat.le_refl 0) (Nat.zero_le j) ⟨?_, kd_rel HX HY⟩⟩
        show ((kd_ls (S e))[j]?).elim (-1) nI = -1
        rw [List.getElem?_eq_none hle]; rfl
      · have hl : kd_ls (S e) = (kd_ls (S e)).take j ++ (kd_ls (S e))[j] :: (kd_ls (S e)).drop (j + 1) := by
          rw [List.getElem_cons_drop, List.take_append_drop]
        obtain ⟨b1, b2, b3, b4⟩ := kd_rw1 HR he hl (List.length_take_of_le (Nat.le_of_lt hlt))
        refine And.intro b3 ⟨128 + 1, kd_ycube_l (HY e he) he hj 128 0 0 rfl (Nat.le_refl 0) (Nat.zero_le j) ⟨?_, kd_rel HX HY⟩⟩
        show ((kd_ls (S e))[j]?).elim (-1) nI = _
        rw [List.getElem?_eq_getElem hlt, b4]; rfl
end
section
/-! dividing -/
section
variable {fm fw : Int32} {sz cb md ck ho wc wl : Nat → Int32} {ai aq al : Nat → Int32} {S : Nat → Nat → Bool}
/-- both sides agree whether one can divide -/
theorem kd_cd (HX : kd_XS sz cb (fun e => kd_ls (S e))) (HY : kd_YS ai S) (x y : Int32) : ∃ b : Bool, (∀ post : Int32 → Prop, post (kd_bI b) → wpX_canDivide post (fm, fw, sz, cb, md, ck, ho, wc, wl) x y) ∧ (∀ post : Int32 → Prop, post (kd_bI b) → wpY_divides post (ai, aq, al) x y) ∧ (b = true → ∃ f g : Nat, f < 4 ∧ g < 4 ∧ x = nI f ∧ y = nI g ∧ kd_ls (S g) ≠ []) := by
  rcases kd_E x with hE | ⟨f, hf, rfl⟩
  · refine ⟨false, fun post h => ?_, fun post h => ?_, fun z => absurd z (by decide)⟩
    · unfold wpX_canDivide; dsimp only
      exact kd_isE0 hE (br_t rfl h)
    · unfold wpY_divides; dsimp only
      exact kd_yE0 _ hE (br_t rfl h)
  rcases kd_E y with hE | ⟨g, hg, rfl⟩
  · refine ⟨false, fun post h => ?_, fun post h => ?_, fun z => absurd z (by decide)⟩
    · unfold wpX_canDivide; dsimp only
      exact kd_isE1 hf (br_f (by decide) (kd_isE0 hE (br_t rfl h)))
    · unfold wpY_divides; dsimp only
      exact kd_yE1 _ hf (br_f (by decide) (kd_yE0 _ hE (br_t rfl h)))
  · have HR : kd_RW sz cb g (kd_ls (S g)) := (HX g hg).1
    obtain ⟨hv, hs, h8⟩ := kd_rw0 HR hg
    refine ⟨decide (kd_ls (S g) ≠ []), fun post h => ?_, fun post h => ?_, fun z => ⟨f, g, hf, hg, rfl, rfl, of_decide_eq_true z⟩⟩
    · unfold wpX_canDivide; dsimp only
      refine kd_isE1 hf (br_f (by decide) (kd_isE1 hg (br_f (by decide) (And.intro hv (pk_le (kd_ls (S g)).length 0 (fun z => ?_) (fun z => ?_) hs)))))
      · have e : kd_ls (S g) = [] := List.length_eq_zero_iff.mp (by omega)
        rw [decide_eq_false (fun w => w e)] at h; exact h
      · have e : kd_ls (S g) ≠ [] := fun w => by rw [w] at z; exact absurd z (by decide)
        rw [decide_eq_true e] at h; exact h
    · unfold wpY_divides; dsimp only
      refine kd_yE1 _ hf (br_f (by decide) (kd_yE1 _ hg (br_f (by decide) (kd_many (HY g hg) hg (pk_le (kd_ls (S g)).length 0 (fun z => ?_) (fun z => ?_))))))
      · have e : kd_ls (S g) = [] := List.length_eq_zero_iff.mp (by omega)
        rw [decide_eq_false (fun w => w e)] at h; exact h
      · have e : kd_ls (S g) ≠ [] := fun w => by rw [w] at z; exact absurd z (by decide)
        rw [decide_eq_true e] at h; exact h
end
theorem i_vc_divideBy {k : Nat} {u : SX} {v : SY} (I : i_Rel k u v) (hk : k + 4 ≤ 2048) (v1 : Int32) (v2 : Int32) (v3 : Int32) : wpX_divideBy (fun r u' => wpY_divideBy (fun r' v' => r' = r ∧ i_Rel (k + 4) u' v') v v1 v2 v3) u v1 v2 v3 := by
  obtain ⟨fm, fw, sz, cb, md, ck, ho, wc, wl⟩ := u
  obtain ⟨ai, aq, al⟩ := v
  obtain ⟨S, HX, HY⟩ := I
  have HX : kd_XS sz cb (fun e => kd_ls (S e)) := HX
  have HY : kd_YS ai S := HY
  unfold wpX_divideBy wpY_divideBy
  dsimp only
  rcases kd_E v1 with hE | ⟨e, he, rfl⟩
  · exact kd_isE0 hE (br_t rfl (kd_yE0 _ hE (br_t rfl ⟨rfl, kd_rel HX HY⟩)))
  rcases kd_E v2 with hE | ⟨f, hf, rfl⟩
  · exact kd_isE1 he (br_f (by decide) (kd_isE0 hE (br_t rfl (kd_yE1 _ he (br_f (by decide) (kd_yE0 _ hE (br_t rfl ⟨rfl, kd_rel HX HY⟩)))))))
  rcases kd_C v3 with hC | ⟨c, hc, rfl⟩
  · exact kd_isE1 he (br_f (by decide) (kd_isE1 hf (br_f (by decide) (kd_isC0 hC (br_t rfl (kd_yE1 _ he (br_f (by decide) (kd_yE1 _ hf (br_f (by decide) (kd_yC0 _ hC (br_t rfl ⟨rfl, kd_rel HX HY⟩)))))))))))
  · refine kd_isE1 he (br_f (by decide) (kd_isE1 hf (br_f (by decide) (kd_isC1 hc (br_f (by decide) (kd_quotientBy (HX f hf).1 hf hc (fun fm' md' HM => ?_)))))))
    rw [kd_L3 hc] at HM
    refine kd_store HX he HM (kd_lss _) (fun sz' cb' HX' => ?_)
    refine kd_yE1 _ he (br_f (by decide) (kd_yE1 _ hf (br_f (by decide) (kd_yC1 _ hc (br_f (by decide) ⟨128 + 1, kd_ydb_l HY he hf hc (fun ai' aq' HY' => ⟨rfl, kd_relu he (fun x => kd_lsm) HX' HY'⟩) 128 0 aq rfl (fun c hc => absurd hc (Nat.not_lt_zero c))⟩)))))
theorem i_vc_divide {k : Nat} {u : SX} {v : SY} (I : i_Rel k u v) (hk : k + 4 ≤ 2048) (v1 : Int32) (v2 : Int32) (v3 : Int32) : wpX_divide (fun r u' => wpY_divide (fun r' v' => r' = r ∧ i_Rel (k + 4) u' v') v v1 v2 v3) u v1 v2 v3 := by
  obtain ⟨fm, fw, sz, cb, md, ck, ho, wc, wl⟩ := u
  obtain ⟨ai, aq, al⟩ := v
  obtain ⟨S, HX, HY⟩ := I
  have HX : kd_XS sz cb (fun e => kd_ls (S e)) := HX
  have HY : kd_YS ai S := HY
  unfold wpX_divide wpY_divide
  dsimp only
  rcases kd_E v1 with hE | ⟨e, he, rfl⟩
  · exact kd_isE0 hE (br_t rfl (kd_yE0 _ hE (br_t rfl ⟨rfl, kd_rel HX HY⟩)))
  obtain ⟨b, hbX, hbY, hb⟩ := kd_cd (fm := fm) (fw := fw) (md := md) (ck := ck) (ho := ho) (wc := wc) (wl := wl) (aq := aq) (al := al) HX HY v2 v3
  refine kd_isE1 he (br_f (by decide) (hbX _ (kd_brb b rfl (fun z => ?_) (fun z => ?_))))
  · exact kd_yE1 _ he (br_f (by decide) (hbY _ (kd_brb b rfl (fun _ => ⟨rfl, kd_rel HX HY⟩) (fun w => by rw [z] at w; exact absurd w (by decide)))))
  · obtain ⟨f, g, hf, hg, rfl, rfl, hne⟩ := hb z
    refine kd_quotient (HX f hf).1 (HX g hg).1 hf hg hne (fun fm' md' HM => ?_)
    rw [kd_L1 hne] at HM
    refine kd_store HX he HM (kd_lss _) (fun sz' cb' HX' => ?_)
    refine kd_yE1 _ he (br_f (by decide) (hbY _ (kd_brb b rfl (fun w => by rw [z] at w; exact absurd w (by decide)) (fun _ => ?_))))
    refine kd_work (HY f hf) (HY g hg) hf hg (fun aq' al' HQ HL => ?_)
    refine kd_ystore HY he (Or.inl ⟨rfl, HQ⟩) (fun ai' HY' => ?_)
    have HE := HY' e he
    rw [kd_uS_s] at HE
    exact kd_many HE he ⟨rfl, kd_relu he (fun x => kd_lsm) HX' HY'⟩
theorem i_vc_rest {k : Nat} {u : SX} {v : SY} (I : i_Rel k u v) (hk : k + 4 ≤ 2048) (v1 : Int32) (v2 : Int32) (v3 : Int32) : wpX_rest (fun r u' => wpY_rest (fun r' v' => r' = r ∧ i_Rel (k + 4) u' v') v v1 v2 v3) u v1 v2 v3 := by
  obtain ⟨fm, fw, sz, cb, md, ck, ho, wc, wl⟩ := u
  obtain ⟨ai, aq, al⟩ := v
  obtain ⟨S, HX, HY⟩ := I
  have HX : kd_XS sz cb (fun e => kd_ls (S e)) := HX
  have HY : kd_YS ai S := HY
  unfold wpX_rest wpY_rest
  dsimp only
  rcases kd_E v1 with hE | ⟨e, he, rfl⟩
  · exact kd_isE0 hE (br_t rfl (kd_yE0 _ hE (br_t rfl ⟨rfl, kd_rel HX HY⟩)))
  obtain ⟨b, hbX, hbY, hb⟩ := kd_cd (fm := fm) (fw := fw) (md := md) (ck := ck) (ho := ho) (wc := wc) (wl := wl) (aq := aq) (al := al) HX HY v2 v3
  refine kd_isE1 he (br_f (by decide) (hbX _ (kd_brb b rfl (fun z => ?_) (fun z => ?_))))
  · exact kd_yE1 _ he (br_f (by decide) (hbY _ (kd_brb b rfl (fun _ => ⟨rfl, kd_rel HX HY⟩) (fun w => by rw [z] at w; exact absurd w (by decide)))))
  · obtain ⟨f, g, hf, hg, rfl, rfl, hne⟩ := hb z
    refine kd_quotient (HX f hf).1 (HX g hg).1 hf hg hne (fun fm' md' HM => ?_)
    rw [kd_L1 hne] at HM
    refine kd_remainder (HX f hf).1 (HX g hg).1 hf hg HM (fun fm2 md2 HM2 => ?_)
    refine kd_store HX he HM2 (List.Pairwise.filter _ (kd_lss _)) (fun sz' cb' HX' => ?_)
    refine kd_yE1 _ he (br_f (by decide) (hbY _ (kd_brb b rfl (fun w => by rw [z] at w; exact absurd w (by decide)) (fun _ => ?_))))
    refine kd_work (HY f hf) (HY g hg) hf hg (fun aq' al' HQ HL => ?_)
    obtain ⟨r, hr, hr2⟩ := HL
    refine kd_ystore HY he (Or.inr ⟨by decide, hr⟩) (fun ai' HY' => ?_)
    have HE := HY' e he
    rw [kd_uS_s] at HE
    have e1 := kd_L2 hr2
    refine kd_many HE he ⟨by rw [e1], kd_relu he (fun x => ?_) HX' HY'⟩
    rw [e1]; exact kd_lsm
end
section
/-! letters and kernels -/
theorem kd_Q0 (s : Nat → Bool) : kd_ls (kd_Q s 0) = kd_ls s := by
  refine kd_lsc (fun x _ => ?_)
  rw [kd_Q, Nat.and_zero, Nat.or_zero]
  rfl
theorem i_vc_common {k : Nat} {u : SX} {v : SY} (I : i_Rel k u v) (hk : k + 4 ≤ 2048) (v1 : Int32) : wpX_common (fun r => wpY_common (fun r' => r' = r ∧ i_Rel (k + 4) u v) v v1) u v1 := by
  obtain ⟨fm, fw, sz, cb, md, ck, ho, wc, wl⟩ := u
  obtain ⟨ai, aq, al⟩ := v
  obtain ⟨S, HX, HY⟩ := I
  have HX : kd_XS sz cb (fun e => kd_ls (S e)) := HX
  have HY : kd_YS ai S := HY
  unfold wpX_common wpY_common
  dsimp only
  rcases kd_E v1 with hE | ⟨e, he, rfl⟩
  · exact kd_isE0 hE (br_t rfl (kd_yE0 _ hE (br_t rfl ⟨rfl, kd_rel HX HY⟩)))
  · have HR : kd_RW sz cb e (kd_ls (S e)) := (HX e he).1
    obtain ⟨hv, hs, h8⟩ := kd_rw0 HR he
    refine kd_isE1 he (br_f (by decide) (And.intro hv (pk_le (kd_ls (S e)).length 0 (fun z => ?_) (fun z => ?_) hs)))
    · exact kd_yE1 _ he (br_f (by decide) (kd_many (HY e he) he (pk_eq (kd_ls (S e)).length 0 (fun _ => ⟨rfl, kd_rel HX HY⟩) (fun w => absurd z (by omega)))))
    · refine kd_common255 HR he (kd_yE1 _ he (br_f (by decide) (kd_many (HY e he) he (pk_eq (kd_ls (S e)).length 0 (fun w => absurd z (by omega)) (fun w => ⟨128 + 1, kd_yco_l (HY e he) he 128 0 127 rfl ⟨rfl, kd_rel HX HY⟩⟩)))))
theorem i_vc_free {k : Nat} {u : SX} {v : SY} (I : i_Rel k u v) (hk : k + 4 ≤ 2048) (v1 : Int32) : wpX_free (fun r => wpY_free (fun r' => r' = r ∧ i_Rel (k + 4) u v) v v1) u v1 := by
  obtain ⟨fm, fw, sz, cb, md, ck, ho, wc, wl⟩ := u
  obtain ⟨ai, aq, al⟩ := v
  obtain ⟨S, HX, HY⟩ := I
  have HX : kd_XS sz cb (fun e => kd_ls (S e)) := HX
  have HY : kd_YS ai S := HY
  unfold wpX_free wpY_free
  dsimp only
  rcases kd_E v1 with hE | ⟨e, he, rfl⟩
  · exact kd_isE0 hE (br_t rfl (kd_yE0 _ hE (br_t rfl ⟨rfl, kd_rel HX HY⟩)))
  · have HR : kd_RW sz cb e (kd_ls (S e)) := (HX e he).1
    obtain ⟨hv, hs, h8⟩ := kd_rw0 HR he
    have Y : ∀ b : Bool, kd_yG (S e) 0 = b → wpY_expression (fun r_1 => (r_1 = 0 → (0 : Int32) = kd_bI b ∧ i_Rel (k + 4) (fm, fw, sz, cb, md, ck, ho, wc, wl) (ai, aq, al)) ∧ (¬ r_1 = 0 → wpY_freeBy (fun r_6 => (r_6 = 0 → (0 : Int32) = kd_bI b ∧ i_Rel (k + 4) (fm, fw, sz, cb, md, ck, ho, wc, wl) (ai, aq, al)) ∧ (¬ r_6 = 0 → (1 : Int32) = kd_bI b ∧ i_Rel (k + 4) (fm, fw, sz, cb, md, ck, ho, wc, wl) (ai, aq, al))) (ai, aq, al) (nI e) 0)) (ai, aq, al) (nI e) := by
      intro b hb
      refine kd_yE1 _ he (br_f (by decide) (kd_freeBy (c := 0) (HY e he) he (by decide) (kd_brb _ rfl (fun z => ⟨?_, kd_rel HX HY⟩) (fun z => ⟨?_, kd_rel HX HY⟩))))
      · rw [← hb, z]; rfl
      · rw [← hb, z]; rfl
    have hG : kd_yG (S e) 0 = (decide (2 ≤ (kd_ls (S e)).length) && (kd_an (kd_ls (S e)) == 0)) := by rw [kd_yG, kd_Q0]
    refine kd_isE1 he (br_f (by decide) (And.intro hv (pk_le (kd_ls (S e)).length 1 (fun z => ?_) (fun z => ?_) hs)))
    · exact Y false (by rw [hG, decide_eq_false (by omega), Bool.false_and])
    · have hlt := kd_an_lt (kd_ls (S e))
      refine kd_common255 HR he (pk_eq (kd_an (kd_ls (S e))) 0 (fun w => ?_) (fun w => ?_))
      · exact Y true (by rw [hG, decide_eq_true (by omega), w]; rfl)
      · exact Y false (by rw [hG, beq_false_of_ne w, Bool.and_false])
theorem i_vc_kernels {k : Nat} {u : SX} {v : SY} (I : i_Rel k u v) (hk : k + 4 ≤ 2048) (v1 : Int32) : wpX_kernels (fun r u' => wpY_kernels (fun r' => r' = r ∧ i_Rel (k + 4) u' v) v v1) u v1 := by
  obtain ⟨fm, fw, sz, cb, md, ck, ho, wc, wl⟩ := u
  obtain ⟨ai, aq, al⟩ := v
  obtain ⟨S, HX, HY⟩ := I
  have HX : kd_XS sz cb (fun e => kd_ls (S e)) := HX
  have HY : kd_YS ai S := HY
  unfold wpX_kernels wpY_kernels
  dsimp only
  rcases kd_E v1 with hE | ⟨e, he, rfl⟩
  · exact kd_isE0 hE (br_t rfl ⟨1, br_f (by decide) (kd_yE0 _ hE (br_t rfl (kd_yE0 _ hE (br_t rfl ⟨rfl, kd_rel HX HY⟩))))⟩)
  · have HR : kd_RW sz cb e (kd_ls (S e)) := (HX e he).1
    refine kd_isE1 he (br_f (by decide) (kd_explore HR he (fun fw' ck' ho' wc' wl' HC => ⟨128 + 1, kd_k18 HR he HC 128 0 0 rfl ⟨128 + 1, kd_yk4 (HY e he) he 128 0 0 rfl ⟨?_, kd_rel HX HY⟩⟩⟩)))
    have e1 : kd_fl (fun c => kd_yG (S e) c && kd_yF (S e) c 0 c) 0 128 = kd_fl (fun c => kd_ok (kd_ls (S e)) c && kd_ff (kd_ls (S e)) c 0 c) 0 128 :=
      kd_flc (fun x _ hx => (kd_L6 (by omega)).symm)
    rw [e1]
theorem i_vc_cokernels {k : Nat} {u : SX} {v : SY} (I : i_Rel k u v) (hk : k + 4 ≤ 2048) (v1 : Int32) : wpX_cokernels (fun r u' => wpY_cokernels (fun r' => r' = r ∧ i_Rel (k + 4) u' v) v v1) u v1 := by
  obtain ⟨fm, fw, sz, cb, md, ck, ho, wc, wl⟩ := u
  obtain ⟨ai, aq, al⟩ := v
  obtain ⟨S, HX, HY⟩ := I
  have HX : kd_XS sz cb (fun e => kd_ls (S e)) := HX
  have HY : kd_YS ai S := HY
  unfold wpX_cokernels wpY_cokernels
  dsimp only
  rcases kd_E v1 with hE | ⟨e, he, rfl⟩
  · exact kd_isE0 hE (br_t rfl ⟨1, br_f (by decide) (kd_yE0 _ hE (br_t rfl (kd_yE0 _ hE (br_t rfl ⟨rfl, kd_rel HX HY⟩))))⟩)
  · have HR : kd_RW sz cb e (kd_ls (S e)) := (HX e he).1
    refine kd_isE1 he (br_f (by decide) (kd_explore HR he (fun fw' ck' ho' wc' wl' HC => ⟨128 + 1, kd_c18 HC 128 0 0 rfl ⟨128 + 1, kd_yc4 (HY e he) he 128 0 0 rfl ⟨?_, kd_rel HX HY⟩⟩⟩)))
    have e1 : kd_fl (kd_yG (S e)) 0 128 = kd_fl (kd_ok (kd_ls (S e))) 0 128 := kd_flc (fun x _ hx => (kd_L4 (by omega)).symm)
    rw [e1]
theorem i_vc_nextCokernel {k : Nat} {u : SX} {v : SY} (I : i_Rel k u v) (hk : k + 4 ≤ 2048) (v1 : Int32) (v2 : Int32) : wpX_nextCokernel (fun r u' => wpY_nextCokernel (fun r' => r' = r ∧ i_Rel (k + 4) u' v) v v1 v2) u v1 v2 := by
  obtain ⟨fm, fw, sz, cb, md, ck, ho, wc, wl⟩ := u
  obtain ⟨ai, aq, al⟩ := v
  obtain ⟨S, HX, HY⟩ := I
  have HX : kd_XS sz cb (fun e => kd_ls (S e)) := HX
  have HY : kd_YS ai S := HY
  unfold wpX_nextCokernel wpY_nextCokernel
  dsimp only
  rcases kd_E v1 with hE | ⟨e, he, rfl⟩
  · exact kd_isE0 hE (br_t rfl ⟨1, br_f (by decide) (kd_yE0 _ hE (br_t rfl ⟨rfl, kd_rel HX HY⟩))⟩)
  · have HR : kd_RW sz cb e (kd_ls (S e)) := (HX e he).1
    refine kd_isE1 he (br_f (by decide) (kd_explore HR he (fun fw' ck' ho' wc' wl' HC => br_c (fun hn => ?_) (fun hn => ?_))))
    · obtain ⟨j, hj, rfl⟩ := nI_of (x := v2) (Int32.not_lt.mpr hn)
      by_cases hj1 : j < 128
      · refine ⟨(128 - j) + 1, kd_n24 HC (128 - j) j (by omega) ⟨128 + 1, kd_yn2 (HY e he) he 128 0 rfl ⟨?_, kd_rel HX HY⟩⟩⟩
        have e1 : kd_fl (kd_yN (S e) (nI j)) 0 128 = kd_fl (kd_yN (S e) (nI j)) 0 j ++ kd_fl (kd_yN (S e) (nI j)) (0 + j) (128 - j) := by
          rw [← kd_fla, show j + (128 - j) = 128 from by omega]
        have e2 : kd_fl (kd_yN (S e) (nI j)) 0 j = [] := by
          refine kd_fln (fun x _ hx => ?_)
          rw [kd_yN, decide_eq_true (nI_lt (show x < j from by omega) hj)]; rfl
        have e3 : kd_fl (kd_yN (S e) (nI j)) (0 + j) (128 - j) = kd_fl (kd_ok (kd_ls (S e))) j (128 - j) := by
          rw [Nat.zero_add]
          refine kd_flc (fun x h1 h2 => ?_)
          rw [kd_yN, decide_eq_false (nI_nlt h1 (by omega)), kd_L4 (by omega)]; rfl
        rw [e1, e2, e3]; rfl
      · refine ⟨1, pk_le 128 j (fun _ => ⟨128 + 1, kd_yn2 (HY e he) he 128 0 rfl ⟨?_, kd_rel HX HY⟩⟩) (fun z => absurd z hj1)⟩
        have e2 : kd_fl (kd_yN (S e) (nI j)) 0 128 = [] := by
          refine kd_fln (fun x _ hx => ?_)
          rw [kd_yN, decide_eq_true (nI_lt (show x < j from by omega) hj)]; rfl
        rw [e2]; rfl
    · refine ⟨128 + 1, kd_n24 HC 128 0 rfl ⟨128 + 1, kd_yn2 (HY e he) he 128 0 rfl ⟨?_, kd_rel HX HY⟩⟩⟩
      have e3 : kd_fl (kd_yN (S e) v2) 0 128 = kd_fl (kd_ok (kd_ls (S e))) 0 128 := by
        refine kd_flc (fun x h1 h2 => ?_)
        have hx : ¬ nI x < v2 := by
          intro z
          exact hn (Int32.le_of_lt (Int32.lt_of_le_of_lt (nI_pos' (n := x) (by omega)) z))
        rw [kd_yN, decide_eq_false hx, kd_L4 (by omega)]; rfl
      rw [e3]
theorem i_vc_holding {k : Nat} {u : SX} {v : SY} (I : i_Rel k u v) (hk : k + 4 ≤ 2048) (v1 : Int32) (v2 : Int32) : wpX_holding (fun r => wpY_holding (fun r' => r' = r ∧ i_Rel (k + 4) u v) v v1 v2) u v1 v2 := by
  obtain ⟨fm, fw, sz, cb, md, ck, ho, wc, wl⟩ := u
  obtain ⟨ai, aq, al⟩ := v
  obtain ⟨S, HX, HY⟩ := I
  have HX : kd_XS sz cb (fun e => kd_ls (S e)) := HX
  have HY : kd_YS ai S := HY
  unfold wpX_holding wpY_holding
  dsimp only
  rcases kd_E v1 with hE | ⟨e, he, rfl⟩
  · exact kd_isE0 hE (br_t rfl (kd_yE0 _ hE (br_t rfl ⟨rfl, kd_rel HX HY⟩)))
  rcases kd_C v2 with hC | ⟨c, hc, rfl⟩
  · exact kd_isE1 he (br_f (by decide) (kd_isC0 hC (br_t rfl (kd_yE1 _ he (br_f (by decide) (kd_yC0 _ hC (br_t rfl ⟨rfl, kd_rel HX HY⟩)))))))
  · have HR : kd_RW sz cb e (kd_ls (S e)) := (HX e he).1
    have h8 := HR.2.1
    refine kd_isE1 he (br_f (by decide) (kd_isC1 hc (br_f (by decide) (kd_placesOf HR he hc (kd_yE1 _ he (br_f (by decide) (kd_yC1 _ hc (br_f (by decide) ⟨128 + 1, kd_yho_l (HY e he) he hc h8 128 0 0 0 rfl (by rw [Nat.zero_add]; exact h8) ⟨?_, kd_rel HX HY⟩⟩))))))))
    rw [Nat.zero_or]; rfl
theorem kd_fin (a b c d : Int32) : 0 + a - b - c - d = a - (b + c) - d := by grind
theorem i_vc_saving {k : Nat} {u : SX} {v : SY} (I : i_Rel k u v) (hk : k + 4 ≤ 2048) (v1 : Int32) (v2 : Int32) : wpX_saving (fun r u' => wpY_saving (fun r' v' => r' = r ∧ i_Rel (k + 4) u' v') v v1 v2) u v1 v2 := by
  obtain ⟨fm, fw, sz, cb, md, ck, ho, wc, wl⟩ := u
  obtain ⟨ai, aq, al⟩ := v
  obtain ⟨S, HX, HY⟩ := I
  have HX : kd_XS sz cb (fun e => kd_ls (S e)) := HX
  have HY : kd_YS ai S := HY
  unfold wpX_saving wpY_saving
  dsimp only
  obtain ⟨b, hbX, hbY, hb⟩ := kd_cd (fm := fm) (fw := fw) (md := md) (ck := ck) (ho := ho) (wc := wc) (wl := wl) (aq := aq) (al := al) HX HY v1 v2
  refine hbX _ (kd_brb b rfl (fun z => ?_) (fun z => ?_))
  · exact hbY _ (kd_brb b rfl (fun _ => ⟨rfl, kd_rel HX HY⟩) (fun w => by rw [z] at w; exact absurd w (by decide)))
  · obtain ⟨f, g, hf, hg, rfl, rfl, hne⟩ := hb z
    have HF : kd_RW sz cb f (kd_ls (S f)) := (HX f hf).1
    have HG : kd_RW sz cb g (kd_ls (S g)) := (HX g hg).1
    refine kd_quotient HF HG hf hg hne (fun fm' md' HM => ?_)
    rw [kd_L1 hne] at HM
    refine kd_madeLetters HM (kd_remainder HF HG hf hg HM (fun fm2 md2 HM2 => kd_madeLetters HM2 (nm_e (kd_lettersOf HF hf (kd_lettersOf HG hg ?_)))))
    refine hbY _ (kd_brb b rfl (fun w => by rw [z] at w; exact absurd w (by decide)) (fun _ => ?_))
    refine kd_work (HY f hf) (HY g hg) hf hg (fun aq' al' HQ HL => ?_)
    obtain ⟨r, hr, hr2⟩ := HL
    refine ⟨128 + 1, kd_ys22 (HY f hf) (HY g hg) HQ hr hf hg 128 0 0 rfl ⟨?_, kd_rel HX HY⟩⟩
    rw [kd_fin, kd_L2 hr2]; rfl
end
