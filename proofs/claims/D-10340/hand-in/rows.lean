section
/-! from BITS.to-paste: longs, masks and shifts -/
theorem wb_tb (n : Nat) : (lN n).toBitVec = BitVec.ofNat 64 n := rfl
theorem wb_inj {a b : Int64} (h : a.toBitVec = b.toBitVec) : a = b := Int64.toBitVec_inj.mp h
theorem wb_tn {n : Nat} (h : n < 2 ^ 64) : (lN n).toBitVec.toNat = n := by rw [wb_tb, BitVec.toNat_ofNat, Nat.mod_eq_of_lt h]
theorem wb_cu : ∀ k, k < 64 → ((nI k).toInt64.toUInt64 &&& Int64.toUInt64 63) = UInt64.ofNat k := by decide +kernel
theorem wb_lt2 {a b : Nat} (h : a < b) : 2 ^ a < 2 ^ b := Nat.pow_lt_pow_right (by decide) h
theorem wb_shr {n k : Nat} (hn : n < 2 ^ 64) (hk : k < 64) : ((lN n).toUInt64 >>> ((nI k).toInt64.toUInt64 &&& Int64.toUInt64 63)).toInt64 = lN (n / 2 ^ k) := by
  rw [wb_cu k hk]
  apply wb_inj
  apply BitVec.eq_of_toNat_eq
  show ((lN n).toUInt64 >>> UInt64.ofNat k).toNat = (BitVec.ofNat 64 _).toNat
  have h1 : (UInt64.ofNat k).toNat = k := by
    show (BitVec.ofNat 64 k).toNat = k
    rw [BitVec.toNat_ofNat, Nat.mod_eq_of_lt (by omega)]
  have h2 : (lN n).toUInt64.toNat = n := wb_tn hn
  rw [UInt64.toNat_shiftRight, h1, h2, Nat.mod_eq_of_lt hk, Nat.shiftRight_eq_div_pow, BitVec.toNat_ofNat, Nat.mod_eq_of_lt (Nat.lt_of_le_of_lt (Nat.div_le_self _ _) hn)]
theorem wb_and {a b : Nat} (ha : a < 2 ^ 64) (hb : b < 2 ^ 64) : lN a &&& lN b = lN (a &&& b) := by
  apply wb_inj
  rw [Int64.toBitVec_and, wb_tb, wb_tb, wb_tb]
  apply BitVec.eq_of_toNat_eq
  rw [BitVec.toNat_and, BitVec.toNat_ofNat, BitVec.toNat_ofNat, BitVec.toNat_ofNat, Nat.mod_eq_of_lt ha, Nat.mod_eq_of_lt hb, Nat.mod_eq_of_lt (Nat.and_lt_two_pow _ hb)]
theorem wb_mask {n k : Nat} (hn : n < 2 ^ 64) (hk : k < 64) : lN n &&& lN (2 ^ k - 1) = lN (n % 2 ^ k) := by
  rw [wb_and hn (by have := wb_lt2 hk; omega), Nat.and_two_pow_sub_one_eq_mod]
/-! residues modulo 2^31 - 1 -/
abbrev sq_F : Type := Fin 2147483647
def sq_g (v : sq_F) : Int32 := nI v.val
theorem sq_b31 (v : sq_F) : v.val < 2 ^ 31 := by
  have := v.isLt
  omega
theorem sq_g0 : sq_g 0 = 0 := rfl
theorem sq_g1 : sq_g 1 = 1 := rfl
theorem sq_gH : sq_g 1073741824 = 1073741824 := rfl
theorem sq_inj {a b : sq_F} : sq_g a = sq_g b ↔ a = b := by
  constructor
  · intro h
    exact Fin.ext ((nI_eq (sq_b31 a) (sq_b31 b)).mp h)
  · intro h
    rw [h]
theorem sq_of {k : Nat} (h : k < 2147483647) : ∃ v : sq_F, nI k = sq_g v ∧ v.val = k := ⟨⟨k, h⟩, rfl, rfl⟩
theorem sq_addv (a b : sq_F) : (a + b).val = (a.val + b.val) % 2147483647 := rfl
theorem sq_subv (a b : sq_F) : (a - b).val = (2147483647 - b.val + a.val) % 2147483647 := rfl
theorem sq_mulv (a b : sq_F) : (a * b).val = (a.val * b.val) % 2147483647 := rfl
theorem sq_red {post : Int32 → Prop} {k : Nat} {v : sq_F} (hk : k < 4294967294) (hv : v.val = k % 2147483647) (h : post (sq_g v)) : (lN k < 2147483647 → post (lN k).toInt32) ∧ (¬ lN k < 2147483647 → post ((lN k - 2147483647).toInt32)) := by
  have hP : (2147483647 : Int64) = lN 2147483647 := rfl
  rw [hP]
  unfold sq_g at h
  refine br_c (fun z => ?_) (fun z => ?_)
  · have z' : k < 2147483647 := (pk_lLT (by omega) (by omega)).mp z
    rw [lN_i]
    rw [hv, Nat.mod_eq_of_lt z'] at h
    exact h
  · have z' : 2147483647 ≤ k := by
      rcases Nat.lt_or_ge k 2147483647 with q | q
      · exact absurd ((pk_lLT (by omega) (by omega)).mpr q) z
      · exact q
    rw [lN_sub z', lN_i]
    rw [hv, show k % 2147483647 = k - 2147483647 by omega] at h
    exact h
theorem sq_plus {post : Int32 → Prop} {x y : Int32} (a b : sq_F) (hx : x = sq_g a) (hy : y = sq_g b) (h : post (sq_g (a + b))) : wpX_plus post () x y := by
  subst hx hy
  have la := a.isLt
  have lb := b.isLt
  have hs : (sq_g a).toInt64 + (sq_g b).toInt64 = lN (a.val + b.val) := by
    unfold sq_g
    rw [nI_l (sq_b31 a), nI_l (sq_b31 b), lN_add]
  unfold wpX_plus
  exact nm_r hs (sq_red (by omega) (sq_addv a b) h)
theorem sq_nat {n : Nat} (h : n ≤ 4611686009837453316) : (n % 2147483648 + n / 2147483648) % 2147483647 = n % 2147483647 ∧ n % 2147483648 + n / 2147483648 < 4294967294 := by
  omega
theorem sq_pb {a b : Nat} (ha : a < 2147483647) (hb : b < 2147483647) : a * b ≤ 4611686009837453316 := by
  have := Nat.mul_le_mul (show a ≤ 2147483646 by omega) (show b ≤ 2147483646 by omega)
  exact this
theorem sq_times {post : Int32 → Prop} {x y : Int32} (a b : sq_F) (hx : x = sq_g a) (hy : y = sq_g b) (h : post (sq_g (a * b))) : wpX_times post () x y := by
  subst hx hy
  have hb := sq_pb a.isLt b.isLt
  have hs : (sq_g a).toInt64 * (sq_g b).toInt64 = lN (a.val * b.val) := by
    unfold sq_g
    rw [nI_l (sq_b31 a), nI_l (sq_b31 b), lN_mul]
  have hn := sq_nat hb
  have hv := sq_mulv a b
  generalize a.val * b.val = n at hb hs hn hv
  have h2 : (lN n &&& 2147483647) + ((lN n).toUInt64 >>> ((31 : Int32).toInt64.toUInt64 &&& Int64.toUInt64 63)).toInt64 = lN (n % 2147483648 + n / 2147483648) := by
    have e1 : lN n &&& 2147483647 = lN (n % 2147483648) := wb_mask (k := 31) (by omega) (by decide)
    have e2 : ((lN n).toUInt64 >>> ((31 : Int32).toInt64.toUInt64 &&& Int64.toUInt64 63)).toInt64 = lN (n / 2147483648) := wb_shr (k := 31) (by omega) (by decide)
    rw [e1, e2, lN_add]
  unfold wpX_times
  exact nm_r hs (nm_r h2 (sq_red hn.2 (by rw [hv, hn.1]) h))
theorem sq_minus {post : Int32 → Prop} {x y : Int32} (a b : sq_F) (hx : x = sq_g a) (hy : y = sq_g b) (h : post (sq_g (a - b))) : wpX_minus post () x y := by
  subst hx hy
  have la := a.isLt
  have lb := b.isLt
  have hv := sq_subv a b
  unfold wpX_minus
  refine nm_e ?_
  unfold sq_g at h ⊢
  rcases Nat.lt_or_ge a.val b.val with q | q
  · have hneg : ¬ 0 ≤ nI a.val - nI b.val := by
      rw [Int32.le_iff_toInt_le, Int32.toInt_sub, nI_toInt (by omega), nI_toInt (by omega), show (0 : Int32).toInt = 0 from by decide]
      rw [Int.bmod_eq_of_le (by omega) (by omega)]
      omega
    have e2 : nI a.val - nI b.val + 2147483647 = nI (a.val + 2147483647 - b.val) := by
      have e3 : nI (a.val + 2147483647) - nI b.val = nI (a.val + 2147483647 - b.val) := pk_sub (by omega)
      rw [← e3, ← nI_add]
      show nI a.val - nI b.val + nI 2147483647 = _
      grind
    refine br_f hneg ?_
    rw [e2, show a.val + 2147483647 - b.val = (a - b).val by rw [hv]; omega]
    exact h
  · have e : nI a.val - nI b.val = nI (a.val - b.val) := pk_sub q
    rw [e]
    refine br_t (nI_pos' (by omega)) ?_
    rw [show a.val - b.val = (a - b).val by rw [hv]; omega]
    exact h
/-! sums -/
def sq_s (f : Nat → sq_F) : Nat → sq_F
  | 0 => 0
  | n + 1 => sq_s f n + f n
theorem sq_s0 (f : Nat → sq_F) : sq_s f 0 = 0 := rfl
theorem sq_s1 (f : Nat → sq_F) (n : Nat) : sq_s f (n + 1) = sq_s f n + f n := rfl
theorem sq_split (f : Nat → sq_F) (h : Nat) : sq_s f (2 * h) = sq_s (fun j => f (2 * j)) h + sq_s (fun j => f (2 * j + 1)) h := by
  induction h with
  | zero => rfl
  | succ h ih =>
    rw [show 2 * (h + 1) = 2 * h + 1 + 1 by omega, sq_s1, sq_s1, ih, sq_s1, sq_s1]
    generalize sq_s (fun j => f (2 * j)) h = x
    generalize sq_s (fun j => f (2 * j + 1)) h = y
    generalize f (2 * h) = z
    generalize f (2 * h + 1) = w
    grind
/-- the value at r of the line through low at 0 and high at 1 -/
def sq_l (low high r : sq_F) : sq_F := low + (high - low) * r
/-- the class's between -/
def sq_b (s0 s1 s2 r : sq_F) : sq_F := sq_l s0 s1 r + r * (r - 1) * 1073741824 * (s0 + s2 - (s1 + s1))
/-- the folded table -/
def sq_fo (A : Nat → sq_F) (r : sq_F) : Nat → sq_F := fun j => sq_l (A (2 * j)) (A (2 * j + 1)) r
/-- the three honest sums -/
def sq_p0 (A B : Nat → sq_F) : Nat → sq_F := fun j => A (2 * j) * B (2 * j)
def sq_p1 (A B : Nat → sq_F) : Nat → sq_F := fun j => A (2 * j + 1) * B (2 * j + 1)
def sq_p2 (A B : Nat → sq_F) : Nat → sq_F := fun j => (A (2 * j + 1) + A (2 * j + 1) - A (2 * j)) * (B (2 * j + 1) + B (2 * j + 1) - B (2 * j))
theorem sq_half : (1073741824 : sq_F) + 1073741824 = 1 := by decide
theorem sq_one (a0 a1 b0 b1 r : sq_F) : sq_b (a0 * b0) (a1 * b1) ((a1 + a1 - a0) * (b1 + b1 - b0)) r = sq_l a0 a1 r * sq_l b0 b1 r := by
  unfold sq_b sq_l
  have h := sq_half
  generalize (1073741824 : sq_F) = t at h ⊢
  grind
theorem sq_lin (x0 x1 x2 y0 y1 y2 r : sq_F) : sq_b (x0 + y0) (x1 + y1) (x2 + y2) r = sq_b x0 x1 x2 r + sq_b y0 y1 y2 r := by
  unfold sq_b sq_l
  generalize (1073741824 : sq_F) = t
  grind
theorem sq_b0 (r : sq_F) : sq_b 0 0 0 r = 0 := by
  unfold sq_b sq_l
  generalize (1073741824 : sq_F) = t
  grind
theorem sq_key (A B : Nat → sq_F) (r : sq_F) (h : Nat) : sq_b (sq_s (sq_p0 A B) h) (sq_s (sq_p1 A B) h) (sq_s (sq_p2 A B) h) r = sq_s (fun j => sq_fo A r j * sq_fo B r j) h := by
  induction h with
  | zero => exact sq_b0 r
  | succ h ih =>
    rw [sq_s1, sq_s1, sq_s1, sq_s1, sq_lin, ih]
    exact congrArg (fun z => _ + z) (sq_one _ _ _ _ r)
/-- tables: the first m cells hold A -/
def sq_T (a : Nat → Int32) (A : Nat → sq_F) (m : Nat) : Prop := ∀ j, j < m → a j = sq_g (A j)
end
section
section
variable {v m st g ru ts : Int32} {a1 a2 a3 a4 a5 a6 a7 a8 : Nat → Int32}
/-- one formula at one assignment: k clauses are left, from place i on -/
def sq_v (a1 a2 : Nat → Int32) (x : Int32) : Nat → Nat → sq_F
  | 0, _ => 1
  | k + 1, i => if ((a1 i &&& x) ||| (a2 i &&& (x ^^^ (-1)))) = 0 then 0 else sq_v a1 a2 x k (i + 1)
theorem sq_vz (a1 a2 : Nat → Int32) (x : Int32) (i : Nat) : sq_v a1 a2 x 0 i = 1 := rfl
theorem sq_vs (a1 a2 : Nat → Int32) (x : Int32) (k i : Nat) : sq_v a1 a2 x (k + 1) i = if ((a1 i &&& x) ||| (a2 i &&& (x ^^^ (-1)))) = 0 then 0 else sq_v a1 a2 x k (i + 1) := rfl
theorem sq_v01 (a1 a2 : Nat → Int32) (x : Int32) : ∀ k i, sq_v a1 a2 x k i = 0 ∨ sq_v a1 a2 x k i = 1 := by
  intro k
  induction k with
  | zero => exact fun i => Or.inr rfl
  | succ k ih =>
    intro i
    rw [sq_vs]
    by_cases q : ((a1 i &&& x) ||| (a2 i &&& (x ^^^ (-1)))) = 0
    · rw [if_pos q]
      exact Or.inl rfl
    · rw [if_neg q]
      exact ih (i + 1)
def sq_C (a3 : Nat → Int32) : Prop := (∃ c, c ≤ 6 ∧ a3 0 = nI c) ∧ (∃ c, c ≤ 6 ∧ a3 1 = nI c)
def sq_V (a1 a2 a3 : Nat → Int32) (f x : Nat) : sq_F := sq_v a1 a2 (nI x) (a3 f).toNatClampNeg (f * 6)
def sq_W (a1 a2 a3 : Nat → Int32) (x : Nat) : sq_F := sq_V a1 a2 a3 0 x * sq_V a1 a2 a3 1 x
theorem sq_Cf (C : sq_C a3) {f : Nat} (hf : f < 2) : ∃ c, c ≤ 6 ∧ a3 f = nI c := by
  obtain ⟨c0, c1⟩ := C
  have hh : f = 0 ∨ f = 1 := by omega
  rcases hh with e | e
  · rw [e]
    exact c0
  · rw [e]
    exact c1
theorem sq_Cup (C : sq_C a3) {f c : Nat} (hf : f < 2) (hc : c ≤ 6) : sq_C (upd a3 f (nI c)) := by
  obtain ⟨c0, c1⟩ := C
  have hh : f = 0 ∨ f = 1 := by omega
  rcases hh with e | e
  · subst e
    obtain ⟨d, hd, ed⟩ := c1
    exact ⟨⟨c, hc, pk_us⟩, ⟨d, hd, (pk_un (by decide)).trans ed⟩⟩
  · subst e
    obtain ⟨d, hd, ed⟩ := c0
    exact ⟨⟨d, hd, (pk_un (by decide)).trans ed⟩, ⟨c, hc, pk_us⟩⟩
theorem sq_ix (f i : Nat) : nI f * 6 + nI i = nI (f * 6 + i) := by
  rw [show (6 : Int32) = nI 6 from rfl, pk_mul, nI_add]
theorem sq_val2 {post : Int32 → Prop} {f c x : Nat} (hf : f < 2) (hc : c ≤ 6) (h3 : a3 f = nI c) :
    ∀ k i n, i + k = c → k < n → post (sq_g (sq_v a1 a2 (nI x) k (f * 6 + i))) → wX_value_2 post (nI f) (nI x) v m st g ru ts a1 a2 a3 a4 a5 a6 a7 a8 n (nI i) := by
  intro k
  induction k with
  | zero =>
    intro i n hi hn hp
    obtain ⟨n, rfl⟩ : ∃ n', n = n' + 1 := ⟨n - 1, by omega⟩
    refine And.intro (pk_in f 2 hf) ?_
    rw [nI_clamp (show f < 2 ^ 31 by omega), h3]
    rw [sq_vz, sq_g1] at hp
    exact pk_le c i (fun _ => hp) (fun z => absurd z (by omega))
  | succ k ih =>
    intro i n hi hn hp
    obtain ⟨n, rfl⟩ : ∃ n', n = n' + 1 := ⟨n - 1, by omega⟩
    refine And.intro (pk_in f 2 hf) ?_
    rw [nI_clamp (show f < 2 ^ 31 by omega), h3]
    refine pk_le c i (fun z => absurd z (by omega)) (fun z => ?_)
    refine nm_r (sq_ix f i) ⟨pk_in (f * 6 + i) 12 (by omega), pk_in (f * 6 + i) 12 (by omega), ?_⟩
    rw [nI_clamp (show f * 6 + i < 2 ^ 31 by omega)]
    rw [sq_vs] at hp
    refine br_c (fun q => ?_) (fun q => nm_r (nI_1 i) (ih (i + 1) n (by omega) (by omega) ?_))
    · rw [if_pos q, sq_g0] at hp
      exact hp
    · rw [if_neg q] at hp
      exact hp
theorem sq_value {post : Int32 → Prop} {p0 p1 : Int32} (f x : Nat) (hf : f < 2) (C : sq_C a3) (hp0 : p0 = nI f) (hp1 : p1 = nI x) (h : post (sq_g (sq_V a1 a2 a3 f x))) :
    wpX_value post (v, m, st, g, ru, ts, a1, a2, a3, a4, a5, a6, a7, a8) p0 p1 := by
  subst hp0 hp1
  obtain ⟨c, hc, h3⟩ := sq_Cf C hf
  unfold sq_V at h
  rw [h3, nI_clamp (show c < 2 ^ 31 by omega)] at h
  exact Exists.intro (c + 1) (sq_val2 hf hc h3 c 0 (c + 1) (by omega) (by omega) h)
/-! count -/
theorem sq_sval {f : Nat → sq_F} (hf : ∀ j, f j = 0 ∨ f j = 1) : ∀ n, n ≤ 1000 → (sq_s f n).val ≤ n := by
  intro n
  induction n with
  | zero => exact fun _ => Nat.le_refl 0
  | succ n ih =>
    intro h
    have i1 := ih (by omega)
    have z0 : (0 : sq_F).val = 0 := rfl
    have z1 : (1 : sq_F).val = 1 := rfl
    rw [sq_s1, sq_addv]
    rcases hf n with e | e
    · rw [e, z0]
      omega
    · rw [e, z1]
      omega
theorem sq_W01 (a1 a2 a3 : Nat → Int32) (x : Nat) : sq_W a1 a2 a3 x = 0 ∨ sq_W a1 a2 a3 x = 1 := by
  unfold sq_W sq_V
  rcases sq_v01 a1 a2 (nI x) (a3 0).toNatClampNeg (0 * 6) with e | e
  · rw [e]
    exact Or.inl (Fin.zero_mul _)
  · rw [e, Fin.one_mul]
    exact sq_v01 _ _ _ _ _
theorem sq_acc (a1 a2 a3 : Nat → Int32) {i : Nat} (hi : i ≤ 100) : sq_g (sq_s (sq_W a1 a2 a3) i) + sq_g (sq_V a1 a2 a3 0 i) * sq_g (sq_V a1 a2 a3 1 i) = sq_g (sq_s (sq_W a1 a2 a3) (i + 1)) := by
  have b := sq_sval (sq_W01 a1 a2 a3) i (by omega)
  rw [sq_s1]
  have w : sq_g (sq_V a1 a2 a3 0 i) * sq_g (sq_V a1 a2 a3 1 i) = sq_g (sq_W a1 a2 a3 i) := by
    unfold sq_W sq_V
    rcases sq_v01 a1 a2 (nI i) (a3 0).toNatClampNeg (0 * 6) with e | e
    · rw [e, Fin.zero_mul, sq_g0, Int32.zero_mul]
    · rw [e, Fin.one_mul, sq_g1, Int32.one_mul]
  rw [w]
  unfold sq_g
  rw [nI_add, sq_addv]
  have z0 : (0 : sq_F).val = 0 := rfl
  have z1 : (1 : sq_F).val = 1 := rfl
  have t : (sq_W a1 a2 a3 i).val ≤ 1 := by
    rcases sq_W01 a1 a2 a3 i with e | e
    · rw [e, z0]
      omega
    · rw [e, z1]
      omega
  rw [Nat.mod_eq_of_lt (by omega)]
theorem sq_shl : ∀ k, k < 5 → (1 : Int32) <<< (nI (k + 1) &&& 31) = nI (2 * 2 ^ k) := by decide +kernel
theorem sq_pw : ∀ k, k < 5 → 2 ^ k ≤ 16 ∧ 1 ≤ 2 ^ k := by decide +kernel
theorem sq_cnt {post : Int32 → Prop} (k : Nat) (hk : k < 5) (hv : v = nI (k + 1)) (C : sq_C a3) (h : post (sq_g (sq_s (sq_W a1 a2 a3) (2 * 2 ^ k)))) :
    wpX_count post (v, m, st, g, ru, ts, a1, a2, a3, a4, a5, a6, a7, a8) := by
  subst hv
  unfold wpX_count
  dsimp only
  refine nm_r (sq_shl k hk) ?_
  have b := sq_pw k hk
  generalize 2 ^ k = N at b h ⊢
  exact pk_loop (fun n i s => wX_count_11 post (nI (2 * N)) (nI (k + 1)) m st g ru ts a1 a2 a3 a4 a5 a6 a7 a8 n s (nI i)) (fun i s => s = sq_g (sq_s (sq_W a1 a2 a3) i)) (2 * N) 0 0 (by omega) rfl
    (fun n s e => pk_le (2 * N) (2 * N) (fun _ => by rw [e]; exact h) (fun z => absurd z (by omega)))
    (fun n i s hi e hw => pk_le (2 * N) i (fun z => absurd z (by omega)) (fun _ => sq_value 0 i (by decide) C rfl rfl (sq_value 1 i (by decide) C rfl rfl (nm_r (by rw [e]; exact sq_acc a1 a2 a3 (by omega)) (nm_r (nI_1 i) (hw _ rfl))))))
/-! clause and feed -/
theorem sq_isF {post : Int32 → Prop} {f : Nat} (hf : f < 2) (h : post 1) : wpX_isFormula post () (nI f) := by
  have hh : f = 0 ∨ f = 1 := by omega
  rcases hh with e | e
  · subst e
    exact br_t rfl h
  · subst e
    exact br_f (by decide) (br_t rfl h)
theorem sq_bey {post : Int32 → Prop} {p : Int32} (h0 : post 0) (h1 : post 1) : wpX_beyond post (v, m, st, g, ru, ts, a1, a2, a3, a4, a5, a6, a7, a8) p :=
  br_c (fun _ => h0) (fun _ => h1)
theorem sq_inc : ∀ c, c < 6 → (nI c + 1).toInt8.toInt32 = nI (c + 1) := by decide +kernel
theorem sq_clause {post : Int32 → St2 → Prop} {p0 p1 p2 : Int32} (C : sq_C a3) (hp : ∃ f, f < 2 ∧ p0 = nI f)
    (H : ∀ (r st g ru : Int32) (b1 b2 b3 : Nat → Int32), sq_C b3 → post r (v, m, st, g, ru, ts, b1, b2, b3, a4, a5, a6, a7, a8)) :
    wpX_clause post (v, m, st, g, ru, ts, a1, a2, a3, a4, a5, a6, a7, a8) p0 p1 p2 := by
  obtain ⟨f, hf, rfl⟩ := hp
  obtain ⟨c, hc, h3⟩ := sq_Cf C hf
  unfold wpX_clause
  dsimp only
  refine sq_isF hf (br_f (by decide) (sq_bey (br_t rfl (sq_bey (br_t rfl ?_) (br_f (by decide) (H _ _ _ _ _ _ _ C)))) (br_f (by decide) (H _ _ _ _ _ _ _ C))))
  refine And.intro (pk_in f 2 hf) ?_
  rw [nI_clamp (show f < 2 ^ 31 by omega), h3]
  refine nm_e (pk_lt c 6 (fun z => ?_) (fun z => H _ _ _ _ _ _ _ C))
  rw [sq_ix, nI_clamp (show f * 6 + c < 2 ^ 31 by omega), sq_inc c z]
  exact ⟨pk_in (f * 6 + c) 12 (by omega), nm_e ⟨pk_in (f * 6 + c) 12 (by omega), nm_e ⟨pk_in f 2 hf, pk_in f 2 hf, nm_e (H _ _ _ _ _ _ _ (sq_Cup C hf (by omega)))⟩⟩⟩
theorem sq_cell {post : Int32 → Prop} {L : Nat} {xs : Nat → Int32} {p : Int32} (hL : L ≤ 260) (k : Nat) (hk : k < 2 ^ 31) (hp : p = nI k) (h : ∀ y, post y) : wpL_cell post L xs () p := by
  subst hp
  exact pk_le L k (fun _ => h _) (fun z => ⟨pk_in k L z, h _⟩)
theorem sq_feed {post : St2 → Prop} {L : Nat} {xs : Nat → Int32} {p : Int32} (hL : L ≤ 260) (C : sq_C a3)
    (H : ∀ (st g ru : Int32) (b1 b2 b3 : Nat → Int32), sq_C b3 → post (v, m, st, g, ru, ts, b1, b2, b3, a4, a5, a6, a7, a8)) :
    wpL_feed post L xs (v, m, st, g, ru, ts, a1, a2, a3, a4, a5, a6, a7, a8) p := by
  unfold wpL_feed
  dsimp only
  refine nm_e ?_
  generalize (1 : Int32) <<< (p &&& 31) - 1 = x3
  exact pk_loop (σ := Int32 × Int32 × Int32 × (Nat → Int32) × (Nat → Int32) × (Nat → Int32))
    (fun n i s => wL_feed_9 post L xs x3 n (nI i) v m s.1 s.2.1 s.2.2.1 ts s.2.2.2.1 s.2.2.2.2.1 s.2.2.2.2.2 a4 a5 a6 a7 a8)
    (fun _ s => sq_C s.2.2.2.2.2) 8 0 (st, g, ru, a1, a2, a3) (by omega) C
    (fun n s hs => pk_le 8 8 (fun _ => H _ _ _ _ _ _ hs) (fun z => absurd z (by omega)))
    (fun n i s hi hs hw => pk_le 8 i (fun z => absurd z (by omega)) (fun _ => sq_cell hL (1 + i) (by omega) (nI_add 1 i)
      (fun y => br_c (fun _ => nm_r (nI_1 i) (hw s hs)) (fun _ => nm_e (nm_e (sq_clause hs (pk_andE _ 1 (by decide))
        (fun r st g ru b1 b2 b3 hb => nm_r (nI_1 i) (hw (st, g, ru, b1, b2, b3) hb))))))))
end
end
section
section
variable {v m st g ru ts : Int32} {a1 a2 a3 a4 a5 a6 a7 a8 : Nat → Int32}
theorem sq_fill {s : Nat → Int32} {F : Nat → sq_F} {i : Nat} (h : sq_T s F i) : sq_T (upd s i (sq_g (F i))) F (i + 1) := by
  intro j hj
  by_cases e : j = i
  · rw [e, pk_us]
  · rw [pk_un e]
    exact h j (by omega)
theorem sq_T0 (s : Nat → Int32) (F : Nat → sq_F) : sq_T s F 0 := fun j hj => absurd hj (by omega)
theorem sq_two (i : Nat) : 2 * nI i = nI (2 * i) := pk_mul 2 i
theorem sq_half1 {h : Nat} (hh : h ≤ 16) : nI (2 * h) >>> ((1 : Int32) &&& 31) = nI h := by
  rw [pk_shrN (show 2 * h < 2 ^ 31 by omega) _ 1 (by decide), show 2 * h / 2 ^ 1 = h by omega]
/-! sum -/
theorem sq_addTo {post : St2 → Prop} {p0 p1 p2 : Int32} (t : Nat) (ht : t < 3) (hp : p0 = nI t) (a b s : sq_F) (h1 : p1 = sq_g a) (h2 : p2 = sq_g b) (hs : a6 t = sq_g s)
    (H : post (v, m, st, g, ru, ts, a1, a2, a3, a4, a5, upd a6 t (sq_g (s + a * b)), a7, a8)) : wpX_addTo post (v, m, st, g, ru, ts, a1, a2, a3, a4, a5, a6, a7, a8) p0 p1 p2 := by
  subst hp
  unfold wpX_addTo
  dsimp only
  rw [nI_clamp (show t < 2 ^ 31 by omega)]
  exact sq_times a b h1 h2 ⟨pk_in t 3 ht, sq_plus s (a * b) hs rfl ⟨pk_in t 3 ht, nm_e H⟩⟩
theorem sq_bOne {post : Int32 → Prop} {x y : Int32} (lo hi : sq_F) (hx : x = sq_g lo) (hy : y = sq_g hi) (h : post (sq_g (hi + hi - lo))) : wpX_beyondOne post () x y := by
  unfold wpX_beyondOne
  exact sq_plus hi hi hy hy (sq_minus (hi + hi) lo rfl hx h)
theorem sq_sum {post : St2 → Prop} {h : Nat} {A B : Nat → sq_F} (hh : h ≤ 16) (hts : ts = nI (2 * h)) (TA : sq_T a7 A (2 * h)) (TB : sq_T a8 B (2 * h))
    (H : ∀ b6 : Nat → Int32, b6 0 = sq_g (sq_s (sq_p0 A B) h) → b6 1 = sq_g (sq_s (sq_p1 A B) h) → b6 2 = sq_g (sq_s (sq_p2 A B) h) → post (v, m, st, g, ru, ts, a1, a2, a3, a4, a5, b6, a7, a8)) :
    wpX_sum post (v, m, st, g, ru, ts, a1, a2, a3, a4, a5, a6, a7, a8) := by
  subst hts
  unfold wpX_sum
  dsimp only
  refine nm_e (nm_e (nm_e (nm_r (sq_half1 hh) ?_)))
  refine pk_loop (fun n i s => wX_sum_30 post (nI h) n (nI i) v m st g ru (nI (2 * h)) a1 a2 a3 a4 a5 s a7 a8)
    (fun i s => s 0 = sq_g (sq_s (sq_p0 A B) i) ∧ s 1 = sq_g (sq_s (sq_p1 A B) i) ∧ s 2 = sq_g (sq_s (sq_p2 A B) i)) h 0 _ (by omega) ⟨?_, ?_, ?_⟩ ?_ ?_
  · rw [pk_un (by decide), pk_un (by decide), pk_us]
    rfl
  · rw [pk_un (by decide), pk_us]
    rfl
  · rw [pk_us]
    rfl
  · intro n s hs
    exact pk_le h h (fun _ => H s hs.1 hs.2.1 hs.2.2) (fun z => absurd z (by omega))
  · intro n i s hi hs hw
    obtain ⟨i0, i1, i2⟩ := hs
    refine pk_le h i (fun z => absurd z (by omega)) (fun _ => ?_)
    rw [sq_two, nI_1, nI_clamp (show 2 * i < 2 ^ 31 by omega), nI_clamp (show 2 * i + 1 < 2 ^ 31 by omega)]
    have x0 := TA (2 * i) (by omega)
    have x1 := TA (2 * i + 1) (by omega)
    have y0 := TB (2 * i) (by omega)
    have y1 := TB (2 * i + 1) (by omega)
    have l0 : vp_in (nI (2 * i)) 32 := pk_in (2 * i) 32 (by omega)
    have l1 : vp_in (nI (2 * i + 1)) 32 := pk_in (2 * i + 1) 32 (by omega)
    refine ⟨l0, l0, sq_addTo 0 (by decide) rfl _ _ _ x0 y0 i0 ?_⟩
    refine And.intro l1 (And.intro l1 (sq_addTo 1 (by decide) rfl _ _ (sq_s (sq_p1 A B) i) x1 y1 ((pk_un (by decide)).trans i1) ?_))
    refine And.intro l0 (And.intro l1 (sq_bOne _ _ x0 x1 ?_))
    refine And.intro l0 (And.intro l1 (sq_bOne _ _ y0 y1 ?_))
    refine sq_addTo 2 (by decide) rfl _ _ (sq_s (sq_p2 A B) i) rfl rfl ((pk_un (by decide)).trans ((pk_un (by decide)).trans i2)) ?_
    refine nm_r (nI_1 i) (hw _ ⟨?_, ?_, ?_⟩)
    · rw [pk_un (by decide), pk_un (by decide), pk_us]
      rfl
    · rw [pk_un (by decide), pk_us]
      rfl
    · rw [pk_us]
      rfl
/-! send -/
def sq_st (gap : sq_F) (t : Nat) : sq_F := if t = 0 then gap else if t = 1 then 0 else 0 - gap
def sq_sh (m : Int32) (gap half : sq_F) (t : Nat) : sq_F := if m = 1 then half else if m = 2 then sq_st gap t else 0
theorem sq_steep {post : Int32 → Prop} {t : Nat} (ht : t < 3) (gap : sq_F) (h : post (sq_g (sq_st gap t))) : wpX_steep post () (sq_g gap) (nI t) := by
  unfold wpX_steep
  unfold sq_st at h
  refine pk_eq t 0 (fun z => ?_) (fun z => pk_eq t 1 (fun z1 => ?_) (fun z1 => sq_minus 0 gap rfl rfl ?_))
  · rw [if_pos z] at h
    exact h
  · rw [if_neg z, if_pos z1, sq_g0] at h
    exact h
  · rw [if_neg z, if_neg z1] at h
    exact h
theorem sq_78 {post : St2 → Prop} {J : Int32 → (Nat → Int32) → (Nat → Int32) → (Nat → Int32) → (Nat → Int32) → (Nat → Int32) → (Nat → Int32) → (Nat → Int32) → (Nat → Int32) → Prop} {x2 x3 x5 : Int32} {t : Nat} (ht : t < 3) (hx sx : sq_F)
    (h6 : a6 t = sq_g hx) (h5 : x5 = sq_g sx) (H : J (nI (t + 1)) a1 a2 a3 a4 (upd a5 t (sq_g (hx + sx))) a6 a7 a8) : wX_send_78 post J x2 x3 (nI t) x5 v m st g ru ts a1 a2 a3 a4 a5 a6 a7 a8 := by
  unfold wX_send_78
  rw [nI_clamp (show t < 2 ^ 31 by omega)]
  exact ⟨pk_in t 3 ht, sq_plus hx sx h6 h5 ⟨pk_in t 3 ht, nm_e (nm_r (nI_1 t) H)⟩⟩
theorem sq_39 {post : St2 → Prop} (gap half ρ : sq_F) (Hh : Nat → sq_F) (h6 : sq_T a6 Hh 3) (hr : ru = sq_g ρ)
    (H : ∀ (st' : Int32) (b5 : Nat → Int32), sq_T b5 (fun t => Hh t + sq_sh m gap half t) 3 → ((Hh 0 + sq_sh m gap half 0 + (Hh 1 + sq_sh m gap half 1) = ρ ∧ st' = 1) ∨ (¬ Hh 0 + sq_sh m gap half 0 + (Hh 1 + sq_sh m gap half 1) = ρ ∧ st' = 3)) → post (v, m, st', g, ru, ts, a1, a2, a3, a4, b5, a6, a7, a8)) :
    ∃ n, wX_send_39 post (sq_g gap) (sq_g half) v m st g ru ts n 0 a1 a2 a3 a4 a5 a6 a7 a8 := by
  subst hr
  refine pk_loop (fun n i s => wX_send_39 post (sq_g gap) (sq_g half) v m st g (sq_g ρ) ts n (nI i) a1 a2 a3 a4 s a6 a7 a8) (fun i s => sq_T s (fun t => Hh t + sq_sh m gap half t) i) 3 0 a5 (by omega) (sq_T0 _ _) ?_ ?_
  · intro n s hs
    refine pk_le 3 3 (fun _ => sq_plus _ _ (hs 0 (by decide)) (hs 1 (by decide)) (br_c (fun z => ?_) (fun z => ?_))) (fun z => absurd z (by omega))
    · exact H 1 s hs (Or.inl ⟨sq_inj.mp z, rfl⟩)
    · exact H 3 s hs (Or.inr ⟨fun q => z (sq_inj.mpr q), rfl⟩)
  · intro n i s hi hs hw
    have F := hw _ (sq_fill hs)
    have key : ∀ x5 : Int32, x5 = sq_g (sq_sh m gap half i) → wX_send_78 post (wX_send_39 post (sq_g gap) (sq_g half) v m st g (sq_g ρ) ts n) (sq_g gap) (sq_g half) (nI i) x5 v m st g (sq_g ρ) ts a1 a2 a3 a4 s a6 a7 a8 :=
      fun x5 e => sq_78 hi (Hh i) (sq_sh m gap half i) (h6 i hi) e F
    refine pk_le 3 i (fun z => absurd z (by omega)) (fun _ => br_c (fun z => key _ ?_) (fun z => br_c (fun z2 => sq_steep hi gap (key _ ?_)) (fun z2 => key _ ?_)))
    · unfold sq_sh
      rw [if_pos z]
    · unfold sq_sh
      rw [if_neg z, if_pos z2]
    · unfold sq_sh
      rw [if_neg z, if_neg z2, sq_g0]
/-- the three messages are the honest ones -/
def sq_Hon (A B : Nat → sq_F) (h : Nat) (s0 s1 s2 : sq_F) : Prop := s0 = sq_s (sq_p0 A B) h ∧ s1 = sq_s (sq_p1 A B) h ∧ s2 = sq_s (sq_p2 A B) h
theorem sq_sh0 (gap half : sq_F) (t : Nat) : sq_sh 0 gap half t = 0 := by
  unfold sq_sh
  rw [if_neg (by decide), if_neg (by decide)]
def sq_h3 (x y z : sq_F) (t : Nat) : sq_F := if t = 0 then x else if t = 1 then y else z
theorem sq_send {post : St2 → Prop} {h : Nat} {A B : Nat → sq_F} (hh : h ≤ 16) (hts : ts = nI (2 * h)) (TA : sq_T a7 A (2 * h)) (TB : sq_T a8 B (2 * h)) (ρ : sq_F) (hr : ru = sq_g ρ)
    (H : ∀ (st' : Int32) (b5 b6 : Nat → Int32) (s0 s1 s2 : sq_F), b5 0 = sq_g s0 → b5 1 = sq_g s1 → b5 2 = sq_g s2 → (m = 0 → sq_Hon A B h s0 s1 s2) → ((s0 + s1 = ρ ∧ st' = 1) ∨ (¬ s0 + s1 = ρ ∧ st' = 3)) → post (v, m, st', g, ru, ts, a1, a2, a3, a4, b5, b6, a7, a8)) :
    wpX_send post (v, m, st, g, ru, ts, a1, a2, a3, a4, a5, a6, a7, a8) := by
  unfold wpX_send
  dsimp only
  refine sq_sum hh hts TA TB (fun b6 e0 e1 e2 => ?_)
  refine sq_plus _ _ e0 e1 (sq_minus ρ _ hr rfl (sq_times _ 1073741824 rfl sq_gH.symm ?_))
  refine sq_39 _ _ ρ (sq_h3 (sq_s (sq_p0 A B) h) (sq_s (sq_p1 A B) h) (sq_s (sq_p2 A B) h)) ?_ hr (fun st' b5 hs ho => H st' b5 b6 _ _ _ (hs 0 (by decide)) (hs 1 (by decide)) (hs 2 (by decide)) (fun hm => ?_) ho)
  · intro t ht
    have hh : t = 0 ∨ t = 1 ∨ t = 2 := by omega
    rcases hh with e | e | e
    · rw [e]
      exact e0
    · rw [e]
      exact e1
    · rw [e]
      exact e2
  · subst hm
    refine ⟨?_, ?_, ?_⟩
    · dsimp only
      rw [sq_sh0, Fin.add_zero]
      rfl
    · dsimp only
      rw [sq_sh0, Fin.add_zero]
      rfl
    · dsimp only
      rw [sq_sh0, Fin.add_zero]
      rfl
/-! start -/
theorem sq_el {post : Int32 → Prop} {p : Int32} (r : sq_F) (hp : p = sq_g r) (h : post 1) : wpX_element post () p := by
  subst hp
  have b := r.isLt
  exact br_f (nI_pos (by omega)) (br_f (nI_ge (b := 2147483647) b (by decide)) h)
theorem sq_start {post : Int32 → St2 → Prop} {p : Int32} (k : Nat) (hk : k < 5) (hv : v = nI (k + 1)) (C : sq_C a3) (ρ : sq_F) (hp : p = sq_g ρ)
    (H : ∀ (st' : Int32) (b5 b6 b7 b8 : Nat → Int32) (s0 s1 s2 : sq_F), sq_T b7 (sq_V a1 a2 a3 0) (2 * 2 ^ k) → sq_T b8 (sq_V a1 a2 a3 1) (2 * 2 ^ k) → b5 0 = sq_g s0 → b5 1 = sq_g s1 → b5 2 = sq_g s2 → (m = 0 → sq_Hon (sq_V a1 a2 a3 0) (sq_V a1 a2 a3 1) (2 ^ k) s0 s1 s2) → ((s0 + s1 = ρ ∧ st' = 1) ∨ (¬ s0 + s1 = ρ ∧ st' = 3)) → post st' (v, m, st', 0, p, nI (2 * 2 ^ k), a1, a2, a3, a4, b5, b6, b7, b8)) :
    wpX_start post (v, m, st, g, ru, ts, a1, a2, a3, a4, a5, a6, a7, a8) p := by
  subst hv
  unfold wpX_start
  dsimp only
  refine sq_el ρ hp (br_f (by decide) (nm_r (sq_shl k hk) ?_))
  have b := sq_pw k hk
  generalize 2 ^ k = N at b H ⊢
  refine pk_loop (σ := (Nat → Int32) × (Nat → Int32)) (fun n i s => wX_start_21 post p (nI (k + 1)) m st g ru (nI (2 * N)) n (nI i) a1 a2 a3 a4 a5 a6 s.1 s.2)
    (fun i s => sq_T s.1 (sq_V a1 a2 a3 0) i ∧ sq_T s.2 (sq_V a1 a2 a3 1) i) (2 * N) 0 (a7, a8) (by omega) ⟨sq_T0 _ _, sq_T0 _ _⟩ ?_ ?_
  · intro n s hs
    exact pk_le (2 * N) (2 * N) (fun _ => sq_send (h := N) (by omega) rfl hs.1 hs.2 ρ hp (fun st' b5 b6 s0 s1 s2 e0 e1 e2 hm ho => H st' b5 b6 s.1 s.2 s0 s1 s2 hs.1 hs.2 e0 e1 e2 hm ho)) (fun z => absurd z (by omega))
  · intro n i s hi hs hw
    refine pk_le (2 * N) i (fun z => absurd z (by omega)) (fun _ => ?_)
    rw [nI_clamp (show i < 2 ^ 31 by omega)]
    have l0 : vp_in (nI i) 32 := pk_in i 32 (by omega)
    exact sq_value 0 i (by decide) C rfl rfl ⟨l0, nm_e (sq_value 1 i (by decide) C rfl rfl ⟨l0, nm_e (nm_r (nI_1 i) (hw (_, _) ⟨sq_fill hs.1, sq_fill hs.2⟩))⟩)⟩
/-! between, fold, challenge -/
theorem sq_blend {post : Int32 → Prop} {x y p : Int32} (lo hi r : sq_F) (hx : x = sq_g lo) (hy : y = sq_g hi) (hp : p = sq_g r) (h : post (sq_g (sq_l lo hi r))) : wpX_blend post () x y p := by
  unfold wpX_blend
  exact sq_minus hi lo hy hx (sq_times (hi - lo) r rfl hp (sq_plus lo ((hi - lo) * r) hx rfl h))
theorem sq_betw {post : Int32 → Prop} {p : Int32} (s0 s1 s2 r : sq_F) (h0 : a5 0 = sq_g s0) (h1 : a5 1 = sq_g s1) (h2 : a5 2 = sq_g s2) (hp : p = sq_g r) (h : post (sq_g (sq_b s0 s1 s2 r))) :
    wpX_between post (v, m, st, g, ru, ts, a1, a2, a3, a4, a5, a6, a7, a8) p := by
  unfold wpX_between
  dsimp only
  exact sq_blend s0 s1 r h0 h1 hp (sq_plus s1 s1 h1 h1 (sq_plus s0 s2 h0 h2 (sq_minus (s0 + s2) (s1 + s1) rfl rfl (sq_minus r 1 hp sq_g1.symm (sq_times r (r - 1) hp rfl
    (sq_times (r * (r - 1)) 1073741824 rfl sq_gH.symm (sq_times (r * (r - 1) * 1073741824) (s0 + s2 - (s1 + s1)) rfl rfl (sq_plus (sq_l s0 s1 r) (r * (r - 1) * 1073741824 * (s0 + s2 - (s1 + s1))) rfl rfl h))))))))
def sq_Q (a : Nat → Int32) (A : Nat → sq_F) (r : sq_F) (h i : Nat) : Prop := sq_T a (sq_fo A r) i ∧ ∀ j, 2 * i ≤ j → j < 2 * h → a j = sq_g (A j)
theorem sq_Q0 {a : Nat → Int32} {A : Nat → sq_F} {r : sq_F} {h : Nat} (T : sq_T a A (2 * h)) : sq_Q a A r h 0 := ⟨sq_T0 _ _, fun j _ hj => T j hj⟩
theorem sq_Qs {a : Nat → Int32} {A : Nat → sq_F} {r : sq_F} {h i : Nat} (q : sq_Q a A r h i) : sq_Q (upd a i (sq_g (sq_fo A r i))) A r h (i + 1) :=
  ⟨sq_fill q.1, fun j h1 h2 => (pk_un (by omega)).trans (q.2 j (by omega) h2)⟩
theorem sq_fold {post : St2 → Prop} {p : Int32} {h : Nat} {A B : Nat → sq_F} (hh : h ≤ 16) (hts : ts = nI (2 * h)) (TA : sq_T a7 A (2 * h)) (TB : sq_T a8 B (2 * h)) (r : sq_F) (hp : p = sq_g r)
    (H : ∀ b7 b8 : Nat → Int32, sq_T b7 (sq_fo A r) h → sq_T b8 (sq_fo B r) h → post (v, m, st, g, ru, nI h, a1, a2, a3, a4, a5, a6, b7, b8)) :
    wpX_fold post (v, m, st, g, ru, ts, a1, a2, a3, a4, a5, a6, a7, a8) p := by
  subst hts
  unfold wpX_fold
  dsimp only
  refine nm_r (sq_half1 hh) ?_
  refine pk_loop (σ := (Nat → Int32) × (Nat → Int32)) (fun n i s => wX_fold_12 post p v m st g ru (nI h) n (nI i) a1 a2 a3 a4 a5 a6 s.1 s.2)
    (fun i s => sq_Q s.1 A r h i ∧ sq_Q s.2 B r h i) h 0 (a7, a8) (by omega) ⟨sq_Q0 TA, sq_Q0 TB⟩ ?_ ?_
  · intro n s hs
    exact pk_le h h (fun _ => H s.1 s.2 hs.1.1 hs.2.1) (fun z => absurd z (by omega))
  · intro n i s hi hs hw
    refine pk_le h i (fun z => absurd z (by omega)) (fun _ => ?_)
    rw [sq_two, nI_1, nI_clamp (show 2 * i < 2 ^ 31 by omega), nI_clamp (show 2 * i + 1 < 2 ^ 31 by omega), nI_clamp (show i < 2 ^ 31 by omega)]
    have l : vp_in (nI i) 32 := pk_in i 32 (by omega)
    have l0 : vp_in (nI (2 * i)) 32 := pk_in (2 * i) 32 (by omega)
    have l1 : vp_in (nI (2 * i + 1)) 32 := pk_in (2 * i + 1) 32 (by omega)
    have x0 := hs.1.2 (2 * i) (by omega) (by omega)
    have x1 := hs.1.2 (2 * i + 1) (by omega) (by omega)
    have y0 := hs.2.2 (2 * i) (by omega) (by omega)
    have y1 := hs.2.2 (2 * i + 1) (by omega) (by omega)
    exact ⟨l0, l1, sq_blend _ _ r x0 x1 hp ⟨l, nm_e ⟨l0, l1, sq_blend _ _ r y0 y1 hp ⟨l, nm_e (nm_r (nI_1 i) (hw (_, _) ⟨sq_Qs hs.1, sq_Qs hs.2⟩))⟩⟩⟩⟩
theorem sq_chal {post : Int32 → St2 → Prop} {p : Int32} {n q k : Nat} {A B : Nat → sq_F} (hn : n ≤ 5) (hk : n = q + 1 + k) (hv : v = nI n) (hs1 : st = 1) (hg : g = nI q) (hts : ts = nI (2 * 2 ^ k))
    (TA : sq_T a7 A (2 * 2 ^ k)) (TB : sq_T a8 B (2 * 2 ^ k)) (s0 s1 s2 : sq_F) (h0 : a5 0 = sq_g s0) (h1 : a5 1 = sq_g s1) (h2 : a5 2 = sq_g s2) (r : sq_F) (hp : p = sq_g r)
    (Hend : k = 0 → ∀ (st' : Int32) (b4 b7 b8 : Nat → Int32), ((sq_b s0 s1 s2 r = sq_fo A r 0 * sq_fo B r 0 ∧ st' = 2) ∨ (¬ sq_b s0 s1 s2 r = sq_fo A r 0 * sq_fo B r 0 ∧ st' = 3)) → post st' (v, m, st', nI (q + 1), sq_g (sq_b s0 s1 s2 r), nI (2 ^ k), a1, a2, a3, b4, a5, a6, b7, b8))
    (Hgo : ∀ k', k = k' + 1 → ∀ (st' : Int32) (b4 b5 b6 b7 b8 : Nat → Int32) (t0 t1 t2 : sq_F), sq_T b7 (sq_fo A r) (2 * 2 ^ k') → sq_T b8 (sq_fo B r) (2 * 2 ^ k') → b5 0 = sq_g t0 → b5 1 = sq_g t1 → b5 2 = sq_g t2 → (m = 0 → sq_Hon (sq_fo A r) (sq_fo B r) (2 ^ k') t0 t1 t2) → ((t0 + t1 = sq_b s0 s1 s2 r ∧ st' = 1) ∨ (¬ t0 + t1 = sq_b s0 s1 s2 r ∧ st' = 3)) → post st' (v, m, st', nI (q + 1), sq_g (sq_b s0 s1 s2 r), nI (2 * 2 ^ k'), a1, a2, a3, b4, b5, b6, b7, b8)) :
    wpX_challenge post (v, m, st, g, ru, ts, a1, a2, a3, a4, a5, a6, a7, a8) p := by
  subst hv hs1 hg
  have b := sq_pw k (by omega)
  unfold wpX_challenge
  dsimp only
  refine br_t rfl (sq_el r hp (br_f (by decide) (sq_betw s0 s1 s2 r h0 h1 h2 hp (And.intro (pk_in q 5 (by omega)) (nm_e (nm_r (nI_1 q) ?_))))))
  refine sq_fold (h := 2 ^ k) b.1 hts TA TB r hp (fun b7 b8 TA' TB' => ?_)
  refine pk_le n (q + 1) (fun z => ?_) (fun z => ?_)
  · refine sq_times _ _ (TA' 0 (by omega)) (TB' 0 (by omega)) (br_c (fun e => ?_) (fun e => ?_))
    · exact Hend (by omega) 2 _ b7 b8 (Or.inl ⟨sq_inj.mp e, rfl⟩)
    · exact Hend (by omega) 3 _ b7 b8 (Or.inr ⟨fun e' => e (sq_inj.mpr e'), rfl⟩)
  · obtain ⟨k', hk'⟩ : ∃ k', k = k' + 1 := ⟨k - 1, by omega⟩
    have e2 : 2 ^ k = 2 * 2 ^ k' := by rw [hk', Nat.pow_succ, Nat.mul_comm]
    have b' := sq_pw k' (by omega)
    rw [e2] at TA' TB' ⊢
    exact sq_send (h := 2 ^ k') b'.1 rfl TA' TB' (sq_b s0 s1 s2 r) rfl (fun st' b5 b6 t0 t1 t2 e0 e1 e2 hm ho => Hgo k' hk' st' _ b5 b6 b7 b8 t0 t1 t2 TA' TB' e0 e1 e2 hm ho)
end
end
section
section
variable {v m st g ru ts : Int32} {a1 a2 a3 a4 a5 a6 a7 a8 : Nat → Int32}
theorem sq_msg {post : Int32 → Prop} {p : Int32} (t : Nat) (ht : t < 3) (hp : p = nI t) (hst : ¬ st = 0) (h : post (a5 t)) : wpX_message post (v, m, st, g, ru, ts, a1, a2, a3, a4, a5, a6, a7, a8) p := by
  subst hp
  refine br_f hst (br_f (nI_pos (by omega)) (br_t (nI_le (b := 2) (by omega) (by decide)) (And.intro (pk_in t 3 ht) ?_)))
  rw [nI_clamp (show t < 2 ^ 31 by omega)]
  exact h
theorem sq_chk {post : Int32 → Prop} (h : st = 1 → ∃ s0 s1 : sq_F, a5 0 = sq_g s0 ∧ a5 1 = sq_g s1 ∧ ru = sq_g (s0 + s1)) (hp : post 1) : wpL_checked post (v, m, st, g, ru, ts, a1, a2, a3, a4, a5, a6, a7, a8) := by
  unfold wpL_checked
  dsimp only
  refine br_c (fun z => ?_) (fun _ => hp)
  obtain ⟨s0, s1, h0, h1, hr⟩ := h z
  subst z hr
  have b0 := s0.isLt
  have b1 := s1.isLt
  refine sq_msg 0 (by decide) rfl (by decide) (sq_msg 1 (by decide) rfl (by decide) ?_)
  have hs : (a5 0).toInt64 + (a5 1).toInt64 = lN (s0.val + s1.val) := by
    rw [h0, h1]
    unfold sq_g
    rw [nI_l (sq_b31 s0), nI_l (sq_b31 s1), lN_add]
  refine nm_r hs (And.intro (by decide) (br_f (by decide) (br_t ?_ hp)))
  have e1 : lN (s0.val + s1.val) - lN (s0.val + s1.val) / 2147483647 * 2147483647 = lN ((s0.val + s1.val) % 2147483647) := pk_lRem (b := 2147483647) (by omega) (by decide) (by decide)
  rw [e1]
  unfold sq_g
  rw [nI_l (sq_b31 _), sq_addv]
theorem sq_lel {post : Int32 → Prop} {p : Int32} (h : ∀ w : sq_F, post (sq_g w)) : wpL_element post () p := by
  unfold wpL_element
  obtain ⟨j, hj, e⟩ := pk_andE p (m := 2147483647) 31 (by decide)
  refine nm_r e (pk_eq j 2147483647 (fun z => h 0) (fun z => ?_))
  obtain ⟨w, ew, _⟩ := sq_of (k := j) (by omega)
  rw [ew]
  exact h w
/-! honest -/
def sq_H (n k : Nat) (st g ru ts : Int32) (a5 a7 a8 : Nat → Int32) : Prop :=
  (st = 1 ∧ ∃ (l : Nat) (A B : Nat → sq_F) (s0 s1 s2 : sq_F), n = k + 1 + l ∧ g = nI k ∧ ts = nI (2 * 2 ^ l) ∧ sq_T a7 A (2 * 2 ^ l) ∧ sq_T a8 B (2 * 2 ^ l) ∧ a5 0 = sq_g s0 ∧ a5 1 = sq_g s1 ∧ a5 2 = sq_g s2 ∧ ru = sq_g (s0 + s1) ∧ sq_Hon A B (2 ^ l) s0 s1 s2) ∨ st = 2
theorem sq_hs {A B : Nat → sq_F} {h : Nat} {s0 s1 s2 : sq_F} (H : sq_Hon A B h s0 s1 s2) : s0 + s1 = sq_s (fun j => A j * B j) (2 * h) := by
  rw [sq_split, H.1, H.2.1]
  rfl
theorem sq_hb {A B : Nat → sq_F} {h : Nat} {s0 s1 s2 : sq_F} (H : sq_Hon A B h s0 s1 s2) (r : sq_F) : sq_b s0 s1 s2 r = sq_s (fun j => sq_fo A r j * sq_fo B r j) h := by
  rw [H.1, H.2.1, H.2.2]
  exact sq_key A B r h
theorem sq_34 {post : Int32 → St2 → Prop} {L : Nat} {xs : Nat → Int32} {p : Int32} {n wh : Nat} (hL : L ≤ 260) (hn : n ≤ 5) (ha : wh ≤ 1000) (hp : p = nI wh) (I0 : sq_H n 0 st g ru ts a5 a7 a8)
    (H : ∀ (g ru ts : Int32) (b4 b5 b6 b7 b8 : Nat → Int32), post 1 (nI n, 0, 2, g, ru, ts, a1, a2, a3, b4, b5, b6, b7, b8)) :
    ∃ f, wL_honest_34 post L xs p f 0 (nI n) 0 st g ru ts a1 a2 a3 a4 a5 a6 a7 a8 := by
  subst hp
  refine pk_loop (σ := Int32 × Int32 × Int32 × Int32 × (Nat → Int32) × (Nat → Int32) × (Nat → Int32) × (Nat → Int32) × (Nat → Int32))
    (fun f i s => wL_honest_34 post L xs (nI wh) f (nI i) (nI n) 0 s.1 s.2.1 s.2.2.1 s.2.2.2.1 a1 a2 a3 s.2.2.2.2.1 s.2.2.2.2.2.1 s.2.2.2.2.2.2.1 s.2.2.2.2.2.2.2.1 s.2.2.2.2.2.2.2.2)
    (fun i s => sq_H n i s.1 s.2.1 s.2.2.1 s.2.2.2.1 s.2.2.2.2.2.1 s.2.2.2.2.2.2.2.1 s.2.2.2.2.2.2.2.2) 5 0 (st, g, ru, ts, a4, a5, a6, a7, a8) (by omega) I0 ?_ ?_
  · intro f s hs
    obtain ⟨st, g, ru, ts, a4, a5, a6, a7, a8⟩ := s
    dsimp only at hs ⊢
    rcases hs with ⟨_, l, A, B, s0, s1, s2, hl, _⟩ | e
    · exact absurd hl (by omega)
    · subst e
      exact pk_le 5 5 (fun _ => br_t rfl (H _ _ _ _ _ _ _ _)) (fun z => absurd z (by omega))
  · intro f i s hi hs hw
    obtain ⟨st, g, ru, ts, a4, a5, a6, a7, a8⟩ := s
    dsimp only at hs ⊢
    refine pk_le 5 i (fun z => absurd z (by omega)) (fun _ => ?_)
    rcases hs with ⟨e, l, A, B, s0, s1, s2, hl, eg, ets, TA, TB, e0, e1, e2, er, ho⟩ | e
    · subst e
      refine br_f (by decide) (sq_chk (fun _ => ⟨s0, s1, e0, e1, er⟩) (br_f (by decide) (sq_cell hL (wh + i) (by omega) (nI_add wh i) (fun y => sq_lel (fun w => ?_)))))
      refine sq_chal hn hl rfl rfl eg ets TA TB s0 s1 s2 e0 e1 e2 w rfl ?_ ?_
      · intro hl0 st' b4 b7 b8 hc
        have hb := sq_hb ho w
        rw [hl0] at hb
        have hb' : sq_b s0 s1 s2 w = sq_fo A w 0 * sq_fo B w 0 := hb.trans (Fin.zero_add _)
        rcases hc with ⟨_, c⟩ | ⟨c, _⟩
        · exact nm_r (nI_1 i) (hw (_, _, _, _, _, _, _, _, _) (Or.inr c))
        · exact absurd hb' c
      · intro l' hl' st' b4 b5 b6 b7 b8 t0 t1 t2 TA' TB' f0 f1 f2 hm hc
        have ho' := hm rfl
        have hb := sq_hb ho w
        rw [hl', Nat.pow_succ, Nat.mul_comm] at hb
        have hs' := sq_hs ho'
        rcases hc with ⟨c, c'⟩ | ⟨c, _⟩
        · exact nm_r (nI_1 i) (hw (_, _, _, _, _, _, _, _, _) (Or.inl ⟨c', l', _, _, t0, t1, t2, by omega, rfl, rfl, TA', TB', f0, f1, f2, congrArg sq_g c.symm, ho'⟩))
        · exact absurd (hs'.trans hb.symm) c
    · subst e
      refine br_f (by decide) (sq_chk (fun z => absurd z (by decide)) (br_f (by decide) (sq_cell hL (wh + i) (by omega) (nI_add wh i) (fun y => sq_lel (fun w => ?_)))))
      exact br_f (by decide) (nm_r (nI_1 i) (hw (_, _, _, _, _, _, _, _, _) (Or.inr rfl)))
theorem sq_hon {post : Int32 → St2 → Prop} {L : Nat} {xs : Nat → Int32} {p2 p3 : Int32} {wh : Nat} (hL : L ≤ 260) (k : Nat) (hk : k < 5) (C : sq_C a3) (ρ : sq_F) (hp2 : p2 = sq_g ρ) (ha : wh ≤ 1000) (hp3 : p3 = nI wh)
    (H : ∀ (st g ru ts : Int32) (b4 b5 b6 b7 b8 : Nat → Int32), ¬ st = 1 → post 1 (nI (k + 1), 0, st, g, ru, ts, a1, a2, a3, b4, b5, b6, b7, b8)) :
    wpL_honest post L xs (nI (k + 1), 0, st, g, ru, ts, a1, a2, a3, a4, a5, a6, a7, a8) p2 p3 := by
  unfold wpL_honest
  dsimp only
  refine sq_cnt k hk rfl C (sq_start k hk rfl C ρ hp2 (fun st' b5 b6 b7 b8 s0 s1 s2 TA TB e0 e1 e2 hm ho => ?_))
  have hon := hm rfl
  have hsum : s0 + s1 = sq_s (sq_W a1 a2 a3) (2 * 2 ^ k) := sq_hs hon
  rw [hp2]
  refine br_c (fun z => ?_) (fun z => ?_)
  · have z' := sq_inj.mp z
    rcases ho with ⟨c, c'⟩ | ⟨c, _⟩
    · subst c'
      exact sq_34 hL (by omega) ha hp3 (Or.inl ⟨rfl, k, _, _, s0, s1, s2, by omega, rfl, rfl, TA, TB, e0, e1, e2, by rw [c], hon⟩) (fun g ru ts b4 b5 b6 b7 b8 => H _ _ _ _ _ _ _ _ _ (by decide))
    · exact absurd (hsum.trans z'.symm) c
  · rcases ho with ⟨c, _⟩ | ⟨_, c'⟩
    · exact absurd (sq_inj.mpr (c.symm.trans hsum)) z
    · subst c'
      exact br_t rfl (H _ _ _ _ _ _ _ _ _ (show ¬ (3 : Int32) = 1 by decide))
/-! the law's loop -/
def sq_J (n : Nat) (st g ru ts : Int32) (a5 a7 a8 : Nat → Int32) : Prop :=
  st = 1 → ∃ (q l : Nat) (A B : Nat → sq_F) (s0 s1 s2 : sq_F), n = q + 1 + l ∧ g = nI q ∧ ts = nI (2 * 2 ^ l) ∧ sq_T a7 A (2 * 2 ^ l) ∧ sq_T a8 B (2 * 2 ^ l) ∧ a5 0 = sq_g s0 ∧ a5 1 = sq_g s1 ∧ a5 2 = sq_g s2 ∧ ru = sq_g (s0 + s1)
theorem sq_Jc {n : Nat} (J : sq_J n st g ru ts a5 a7 a8) : st = 1 → ∃ s0 s1 : sq_F, a5 0 = sq_g s0 ∧ a5 1 = sq_g s1 ∧ ru = sq_g (s0 + s1) := by
  intro e
  obtain ⟨q, l, A, B, s0, s1, s2, _, _, _, _, _, e0, e1, _, er⟩ := J e
  exact ⟨s0, s1, e0, e1, er⟩
theorem sq_149 {post : Int32 → Prop} {L : Nat} {xs : Nat → Int32} {W : Int32 → Int32 → Int32 → Int32 → Int32 → Int32 → Int32 → (Nat → Int32) → (Nat → Int32) → (Nat → Int32) → (Nat → Int32) → (Nat → Int32) → (Nat → Int32) → (Nat → Int32) → (Nat → Int32) → Prop} {x3 : Int32} {kc ks n i : Nat}
    (J : sq_J n st g ru ts a5 a7 a8) (h : W (nI (i + 2)) v m st g ru ts a1 a2 a3 a4 a5 a6 a7 a8) : wL_law_149 post L xs W x3 (nI i) kc ks v m st g ru ts a1 a2 a3 a4 a5 a6 a7 a8 := by
  unfold wL_law_149
  exact sq_chk (sq_Jc J) (br_f (by decide) (nm_r (nI_add i 2) h))
theorem sq_117 {post : Int32 → Prop} {L : Nat} {xs : Nat → Int32} {W : Int32 → Int32 → Int32 → Int32 → Int32 → Int32 → Int32 → (Nat → Int32) → (Nat → Int32) → (Nat → Int32) → (Nat → Int32) → (Nat → Int32) → (Nat → Int32) → (Nat → Int32) → (Nat → Int32) → Prop} {x3 z0 : Int32} {kc ks i : Nat}
    (k : Nat) (hk : k < 5) (C : sq_C a3) (ρ : sq_F) (hz : z0 = sq_g ρ) (h : ∀ (st g ru ts : Int32) (b4 b5 b6 b7 b8 : Nat → Int32), sq_J (k + 1) st g ru ts b5 b7 b8 → W (nI (i + 2)) (nI (k + 1)) m st g ru ts a1 a2 a3 b4 b5 b6 b7 b8) :
    wL_law_117 post L xs W x3 (nI i) z0 kc ks (nI (k + 1)) m st g ru ts a1 a2 a3 a4 a5 a6 a7 a8 := by
  unfold wL_law_117
  refine sq_start k hk rfl C ρ hz (fun st' b5 b6 b7 b8 s0 s1 s2 TA TB e0 e1 e2 hm ho => ?_)
  have J : sq_J (k + 1) st' 0 z0 (nI (2 * 2 ^ k)) b5 b7 b8 := by
    intro e
    rcases ho with ⟨c, _⟩ | ⟨_, c⟩
    · exact ⟨0, k, _, _, s0, s1, s2, by omega, rfl, rfl, TA, TB, e0, e1, e2, by rw [c]; exact hz⟩
    · rw [e] at c
      exact absurd c (by decide)
  exact sq_149 J (h _ _ _ _ _ _ _ _ _ J)
theorem sq_69 {post : Int32 → Prop} {L : Nat} {xs : Nat → Int32} {x3 : Int32} {kc ks : Nat} (hL : L ≤ 260) (k : Nat) (hk : k < 5) (C : sq_C a3) (ρ : sq_F) (hx : x3 = sq_g ρ) (J0 : sq_J (k + 1) st g ru ts a5 a7 a8) (hp : post 1) :
    ∃ f, wL_law_69 post L xs x3 kc ks f 20 (nI (k + 1)) m st g ru ts a1 a2 a3 a4 a5 a6 a7 a8 := by
  refine loop_m (σ := Nat × Int32 × Int32 × Int32 × Int32 × Int32 × (Nat → Int32) × (Nat → Int32) × (Nat → Int32) × (Nat → Int32) × (Nat → Int32))
    (fun f s => wL_law_69 post L xs x3 kc ks f (nI s.1) (nI (k + 1)) s.2.1 s.2.2.1 s.2.2.2.1 s.2.2.2.2.1 s.2.2.2.2.2.1 a1 a2 a3 s.2.2.2.2.2.2.1 s.2.2.2.2.2.2.2.1 s.2.2.2.2.2.2.2.2.1 s.2.2.2.2.2.2.2.2.2.1 s.2.2.2.2.2.2.2.2.2.2)
    (fun s => s.1 ≤ 300 ∧ sq_J (k + 1) s.2.2.1 s.2.2.2.1 s.2.2.2.2.1 s.2.2.2.2.2.1 s.2.2.2.2.2.2.2.1 s.2.2.2.2.2.2.2.2.2.1 s.2.2.2.2.2.2.2.2.2.2)
    (fun s => 400 - s.1) ?_ (20, m, st, g, ru, ts, a4, a5, a6, a7, a8) ⟨show 20 ≤ 300 by decide, J0⟩
  intro f s hs hw
  obtain ⟨i, m, st, g, ru, ts, a4, a5, a6, a7, a8⟩ := s
  obtain ⟨hi, J⟩ := hs
  dsimp only at hi J hw ⊢
  refine (?_ : _ ∧ _)
  rw [nI_1]
  refine pk_le L (i + 1) (fun _ => hp) (fun z => ?_)
  have step : ∀ (m st g ru ts : Int32) (b4 b5 b6 b7 b8 : Nat → Int32), sq_J (k + 1) st g ru ts b5 b7 b8 → wL_law_69 post L xs x3 kc ks f (nI (i + 2)) (nI (k + 1)) m st g ru ts a1 a2 a3 b4 b5 b6 b7 b8 :=
    fun m st g ru ts b4 b5 b6 b7 b8 J' => hw (i + 2, m, st, g, ru, ts, b4, b5, b6, b7, b8) ⟨by omega, J'⟩ (by omega)
  refine ⟨pk_in i L (by omega), nm_e ⟨pk_in (i + 1) L z, sq_lel (fun w => ?_)⟩⟩
  refine br_c (fun _ => br_c (fun _ => sq_117 k hk C ρ hx (fun _ _ _ _ _ _ _ _ _ J' => step _ _ _ _ _ _ _ _ _ _ J')) (fun _ => sq_117 k hk C w rfl (fun _ _ _ _ _ _ _ _ _ J' => step _ _ _ _ _ _ _ _ _ _ J'))) (fun _ => br_c (fun _ => And.intro (by decide) ?_) (fun _ => ?_))
  · exact br_c (fun _ => sq_149 J (step _ _ _ _ _ _ _ _ _ _ J)) (fun _ => br_c (fun _ => sq_149 J (step _ _ _ _ _ _ _ _ _ _ J)) (fun _ => sq_149 J (step _ _ _ _ _ _ _ _ _ _ J)))
  · by_cases e : st = 1
    · obtain ⟨q, l, A, B, s0, s1, s2, hl, eg, ets, TA, TB, e0, e1, e2, er⟩ := J e
      refine sq_chal (by omega) hl rfl e eg ets TA TB s0 s1 s2 e0 e1 e2 w rfl ?_ ?_
      · intro _ st' b4 b7 b8 hc
        have J' : sq_J (k + 1) st' (nI (q + 1)) (sq_g (sq_b s0 s1 s2 w)) (nI (2 ^ l)) a5 b7 b8 := by
          intro e'
          rcases hc with ⟨_, c⟩ | ⟨_, c⟩
          · rw [e'] at c
            exact absurd c (by decide)
          · rw [e'] at c
            exact absurd c (by decide)
        exact sq_149 J' (step _ _ _ _ _ _ _ _ _ _ J')
      · intro l' hl' st' b4 b5 b6 b7 b8 t0 t1 t2 TA' TB' f0 f1 f2 hm hc
        have J' : sq_J (k + 1) st' (nI (q + 1)) (sq_g (sq_b s0 s1 s2 w)) (nI (2 * 2 ^ l')) b5 b7 b8 := by
          intro e'
          rcases hc with ⟨c, _⟩ | ⟨_, c⟩
          · exact ⟨q + 1, l', _, _, t0, t1, t2, by omega, rfl, rfl, TA', TB', f0, f1, f2, by rw [c]⟩
          · rw [e'] at c
            exact absurd c (by decide)
        exact sq_149 J' (step _ _ _ _ _ _ _ _ _ _ J')
    · exact br_f e (sq_149 J (step _ _ _ _ _ _ _ _ _ _ J))
end
theorem sq_zero : sq_C (fun _ => 0) := ⟨⟨0, by decide, rfl⟩, ⟨0, by decide, rfl⟩⟩
theorem sq_init {post : St2 → Prop} (k : Nat) (hk : k < 5) (h : post (nI (k + 1), 0, 0, 0, 0, 0, (fun _ => 0), (fun _ => 0), (fun _ => 0), (fun _ => 0), (fun _ => 0), (fun _ => 0), (fun _ => 0), (fun _ => 0))) :
    wpX_init post 8 101 (0, 0, 0, 0, 0, 0) (nI (k + 1)) := by
  unfold wpX_init
  dsimp only
  refine ⟨by decide, by decide, by decide, by decide, by decide, by decide, by decide, by decide, by decide, by decide, by decide, by decide, by decide, by decide, by decide, by decide, ?_⟩
  exact br_t (nI_le (a := 1) (by omega) (by omega)) (br_t (nI_le (b := 5) (by omega) (by decide)) h)
end
section
theorem i_vc (xs : Nat → Int32) (L : Nat) (hL : L ≤ 260) : wpL_law (fun r => r = 1) L xs := by
  unfold wpL_law
  refine sq_cell hL 0 (by decide) rfl (fun y => And.intro (by decide) ?_)
  obtain ⟨j, hj, e⟩ := pk_andE y (m := 65535) 16 (by decide)
  have hk : j % 5 < 5 := Nat.mod_lt _ (by decide)
  have e1 : 1 + ((y &&& 65535) - (y &&& 65535) / 5 * 5) = nI (j % 5 + 1) := by
    rw [e, show nI j - nI j / 5 * 5 = nI (j % 5) from pk_rem (d := 5) (by omega) (by decide) (by decide), Nat.add_comm]
    exact nI_add 1 (j % 5)
  refine nm_r e1 ⟨8, 101, by decide, by decide, ?_⟩
  generalize j % 5 = k at hk
  refine sq_init k hk (sq_feed hL sq_zero (fun st g ru b1 b2 b3 C => sq_cnt k hk rfl C ?_))
  refine sq_hon hL k hk C _ rfl (by decide) (wh := 9) rfl (fun st g ru ts b4 b5 b6 b7 b8 _ => ?_)
  refine br_f (by decide) (sq_cell hL 14 (by decide) rfl (fun y => sq_lel (fun w => ?_)))
  refine sq_hon hL k hk C w rfl (by decide) (wh := 15) rfl (fun st g ru ts b4 b5 b6 b7 b8 hst => ?_)
  exact br_f (by decide) (sq_69 hL k hk C _ rfl (fun e => absurd e hst) rfl)
end
