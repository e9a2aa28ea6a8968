section
theorem pk_us {f : Nat → Int32} {k : Nat} {x : Int32} : upd f k x k = x := if_pos rfl
theorem pk_un {f : Nat → Int32} {k j : Nat} {x : Int32} (h : j ≠ k) : upd f k x j = f j := if_neg h
theorem pk_sub {a b : Nat} (h : b ≤ a) : nI a - nI b = nI (a - b) := by
  obtain ⟨c, rfl⟩ : ∃ c, a = c + b := ⟨a - b, by omega⟩
  rw [← nI_add, Int32.add_sub_cancel, Nat.add_sub_cancel]
theorem pk_m1 (n : Nat) : nI (n + 1) + (-1) = nI n := by
  rw [← nI_1, Int32.add_assoc, show (1 : Int32) + (-1) = 0 from rfl, Int32.add_zero]
theorem pk_mul (a b : Nat) : nI a * nI b = nI (a * b) := (Int32.ofNat_mul a b).symm
theorem pk_div {a d : Nat} (ha : a < 2 ^ 31) (h0 : 0 < d) (hd : d < 2 ^ 31) : nI a / nI d = nI (a / d) := by
  apply Int32.toInt_inj.mp
  rw [lg_idiv_nonneg (by rw [nI_toInt ha]; omega) (by rw [nI_toInt hd]; omega), nI_toInt ha, nI_toInt hd, nI_toInt (Nat.lt_of_le_of_lt (Nat.div_le_self a d) ha)]
  first | rfl | exact (Int.natCast_ediv _ _).symm
theorem pk_rem {a d : Nat} (ha : a < 2 ^ 31) (h0 : 0 < d) (hd : d < 2 ^ 31) : nI a - nI a / nI d * nI d = nI (a % d) := by
  rw [pk_div ha h0 hd, pk_mul, pk_sub (Nat.div_mul_le_self a d)]
  exact congrArg nI (by have := Nat.div_add_mod' a d; omega)
theorem pk_ix (x : Int32) {n : Nat} (hn : n < 2 ^ 31) : x < 0 ∨ nI n ≤ x ∨ ∃ j : Nat, j < n ∧ x = nI j := by
  by_cases h : x < 0
  · exact Or.inl h
  · obtain ⟨j, hj, rfl⟩ := nI_of h
    by_cases h2 : j < n
    · exact Or.inr (Or.inr ⟨j, h2, rfl⟩)
    · exact Or.inr (Or.inl (nI_le (by omega) hj))
theorem pk_le {x y : Int32} {A B : Prop} (a b : Nat) (f : a ≤ b → A) (g : b < a → B) (hx : x = nI a := by rfl) (hy : y = nI b := by rfl) (ha : a < 2 ^ 31 := by omega) (hb : b < 2 ^ 31 := by omega) : (x ≤ y → A) ∧ (¬ x ≤ y → B) := by
  subst hx hy
  rw [nI_leI ha hb]
  exact ⟨f, fun z => g (by omega)⟩
theorem pk_lt {x y : Int32} {A B : Prop} (a b : Nat) (f : a < b → A) (g : b ≤ a → B) (hx : x = nI a := by rfl) (hy : y = nI b := by rfl) (ha : a < 2 ^ 31 := by omega) (hb : b < 2 ^ 31 := by omega) : (x < y → A) ∧ (¬ x < y → B) := by
  subst hx hy
  rw [nI_ltI ha hb]
  exact ⟨f, fun z => g (by omega)⟩
theorem pk_eq {x y : Int32} {A B : Prop} (a b : Nat) (f : a = b → A) (g : a ≠ b → B) (hx : x = nI a := by rfl) (hy : y = nI b := by rfl) (ha : a < 2 ^ 31 := by omega) (hb : b < 2 ^ 31 := by omega) : (x = y → A) ∧ (¬ x = y → B) := by
  subst hx hy
  rw [nI_eq ha hb]
  exact ⟨f, g⟩
theorem pk_in {x : Int32} (n N : Nat) (h : n < N) (hx : x = nI n := by rfl) (hN : N < 2 ^ 31 := by omega) : vp_in x N := by
  subst hx
  exact vp_in_nI h hN
theorem pk_cl {x : Int32} (n : Nat) (hx : x = nI n := by rfl) (h : n < 2 ^ 31 := by omega) : x.toNatClampNeg = n := by
  subst hx
  exact nI_clamp h
theorem pk_tn {n : Nat} (h : n < 2 ^ 32) : (nI n).toBitVec.toNat = n := Nat.mod_eq_of_lt h
theorem pk_and (x : Int32) {m : Int32} (k : Nat) (hm : m.toBitVec.toNat = 2 ^ k - 1) : x &&& m = nI (x.toBitVec.toNat % 2 ^ k) := by
  apply Int32.toBitVec_inj.mp
  apply BitVec.eq_of_toNat_eq
  rw [Int32.toBitVec_and, BitVec.toNat_and, hm, Nat.and_two_pow_sub_one_eq_mod]
  show _ = (BitVec.ofNat 32 _).toNat
  rw [BitVec.toNat_ofNat]
  exact (Nat.mod_eq_of_lt (Nat.lt_of_le_of_lt (Nat.mod_le _ _) x.toBitVec.isLt)).symm
theorem pk_andN {n : Nat} (h : n < 2 ^ 32) {m : Int32} (k : Nat) (hm : m.toBitVec.toNat = 2 ^ k - 1) : nI n &&& m = nI (n % 2 ^ k) := by
  rw [pk_and _ k hm, pk_tn h]
theorem pk_andE (x : Int32) {m : Int32} (k : Nat) (hm : m.toBitVec.toNat = 2 ^ k - 1) : ∃ j : Nat, j < 2 ^ k ∧ x &&& m = nI j := ⟨_, Nat.mod_lt _ (Nat.two_pow_pos k), pk_and x k hm⟩
theorem pk_andIn (x : Int32) {m : Int32} (k : Nat) (hm : m.toBitVec.toNat = 2 ^ k - 1) (hk : k ≤ 30) : vp_in (x &&& m) (2 ^ k) := by
  obtain ⟨j, hj, e⟩ := pk_andE x k hm
  rw [e]
  exact vp_in_nI hj (Nat.lt_of_le_of_lt (Nat.pow_le_pow_right (by decide) hk) (by decide))
theorem pk_shl (a s : Int32) (k : Nat) (hs : (s.toBitVec.smod 32).toNat = k) : (a <<< s).toBitVec.toNat = a.toBitVec.toNat * 2 ^ k % 2 ^ 32 := by
  show (a.toBitVec <<< (s.toBitVec.smod 32).toNat).toNat = _
  rw [hs, BitVec.toNat_shiftLeft, Nat.shiftLeft_eq]
theorem pk_shlN {n : Nat} (s : Int32) (k : Nat) (hs : (s.toBitVec.smod 32).toNat = k) (h : n * 2 ^ k < 2 ^ 32) : nI n <<< s = nI (n * 2 ^ k) := by
  apply Int32.toBitVec_inj.mp
  apply BitVec.eq_of_toNat_eq
  have hn : n < 2 ^ 32 := Nat.lt_of_le_of_lt (Nat.le_mul_of_pos_right n (Nat.two_pow_pos k)) h
  rw [pk_shl _ _ k hs, pk_tn hn, pk_tn h, Nat.mod_eq_of_lt h]
theorem pk_shr (a s : Int32) (k : Nat) (hs : (s.toBitVec.smod 32).toNat = k) : (a >>> s).toInt = a.toInt >>> k := by
  show (a.toBitVec.sshiftRight (s.toBitVec.smod 32).toNat).toInt = _
  rw [hs, BitVec.toInt_sshiftRight]
  rfl
theorem pk_shrN {n : Nat} (h : n < 2 ^ 31) (s : Int32) (k : Nat) (hs : (s.toBitVec.smod 32).toNat = k) : nI n >>> s = nI (n / 2 ^ k) := by
  apply Int32.toInt_inj.mp
  have h2 : n / 2 ^ k ≤ n := Nat.div_le_self _ _
  rw [pk_shr _ _ k hs, nI_toInt h, nI_toInt (by omega), Int.shiftRight_eq_div_pow]
  rfl
theorem pk_ushr (x s : Int32) (k : Nat) (hs : ((s.toUInt32 &&& Int32.toUInt32 31).toBitVec % 32).toNat = k) : (x.toUInt32 >>> (s.toUInt32 &&& Int32.toUInt32 31)).toInt32.toBitVec.toNat = x.toBitVec.toNat / 2 ^ k := by
  have e : (x.toUInt32 >>> (s.toUInt32 &&& Int32.toUInt32 31)).toInt32.toBitVec = x.toBitVec >>> k := by
    rw [← hs]
    exact UInt32.toBitVec_shiftRight _ _
  rw [e, BitVec.toNat_ushiftRight, Nat.shiftRight_eq_div_pow]
theorem pk_ushrN {n : Nat} (hn : n < 2 ^ 32) (s : Int32) (k : Nat) (hs : ((s.toUInt32 &&& Int32.toUInt32 31).toBitVec % 32).toNat = k) : ((nI n).toUInt32 >>> (s.toUInt32 &&& Int32.toUInt32 31)).toInt32 = nI (n / 2 ^ k) := by
  apply Int32.toBitVec_inj.mp
  apply BitVec.eq_of_toNat_eq
  rw [pk_ushr _ s k hs, pk_tn hn, pk_tn (Nat.lt_of_le_of_lt (Nat.div_le_self _ _) hn)]
theorem pk_least (P : Nat → Prop) (h : ∃ k, P k) : ∃ k, P k ∧ ∀ j, j < k → ¬ P j := by
  obtain ⟨k, hk⟩ := h
  induction k using Nat.strongRecOn with
  | ind k ih =>
    by_cases e : ∃ j, j < k ∧ P j
    · obtain ⟨j, hj, pj⟩ := e
      exact ih j hj pj
    · exact ⟨k, hk, fun j hj pj => e ⟨j, hj, pj⟩⟩
theorem ek_if {c d A B : Prop} (e : c ↔ d) (f : d → A) (g : ¬ d → B) : (c → A) ∧ (¬ c → B) :=
  ⟨fun z => f (e.mp z), fun z => g (fun y => z (e.mpr y))⟩
theorem ek_v {α : Sort _} {P : α → Prop} {a b : α} (e : a = b) (h : P b) : P a := e ▸ h
theorem co_2 {P : Nat → Prop} (h0 : P 0) (h1 : P 1) {i : Nat} (hi : i < 2) : P i :=
  match i, hi with
  | 0, _ => h0
  | 1, _ => h1
theorem co_3 {P : Nat → Prop} (h0 : P 0) (h1 : P 1) (h2 : P 2) {i : Nat} (hi : i < 3) : P i :=
  match i, hi with
  | 0, _ => h0
  | 1, _ => h1
  | 2, _ => h2
theorem co_4 {P : Nat → Prop} (h0 : P 0) (h1 : P 1) (h2 : P 2) (h3 : P 3) {i : Nat} (hi : i < 4) : P i :=
  match i, hi with
  | 0, _ => h0
  | 1, _ => h1
  | 2, _ => h2
  | 3, _ => h3
def bt (x : Int32) (i : Nat) : Bool := x.toBitVec.getLsbD i
theorem b_ext {x y : Int32} (h : ∀ i, i < 32 → bt x i = bt y i) : x = y := Int32.toBitVec_inj.mp (BitVec.eq_of_getLsbD_eq (fun i hi => h i hi))
theorem b_or (x y : Int32) (i : Nat) : bt (x ||| y) i = (bt x i || bt y i) := by unfold bt; rw [Int32.toBitVec_or, BitVec.getLsbD_or]
theorem b_and (x y : Int32) (i : Nat) : bt (x &&& y) i = (bt x i && bt y i) := by unfold bt; rw [Int32.toBitVec_and, BitVec.getLsbD_and]
theorem b_xor (x y : Int32) (i : Nat) : bt (x ^^^ y) i = (bt x i ^^ bt y i) := by unfold bt; rw [Int32.toBitVec_xor, BitVec.getLsbD_xor]
theorem b_big {x : Int32} {i : Nat} (h : 32 ≤ i) : bt x i = false := BitVec.getLsbD_of_ge _ _ h
theorem b_m1 : ∀ i, i < 32 → bt (-1) i = true := by decide +kernel
theorem b_0 (i : Nat) : bt 0 i = false := BitVec.getLsbD_zero
theorem s_l : ∀ n, n < 32 → ((nI n &&& 31).toBitVec.smod 32).toNat = n := by decide +kernel
theorem s_u : ∀ n, n < 32 → (((nI n).toUInt32 &&& Int32.toUInt32 31).toBitVec % 32).toNat = n := by decide +kernel
theorem b_shl (n : Nat) (hn : n < 32) (x : Int32) {i : Nat} (hi : i < 32) : bt (x <<< (nI n &&& 31)) i = (decide (n ≤ i) && bt x (i - n)) := by
  unfold bt
  rw [Int32.toBitVec_shiftLeft]
  show (x.toBitVec <<< ((nI n &&& 31).toBitVec.smod 32).toNat).getLsbD i = _
  rw [s_l n hn, BitVec.getLsbD_shiftLeft]
  rcases Nat.lt_or_ge i n with h | h
  · simp [h, Nat.not_le.mpr h]
  · simp [hi, h, Nat.not_lt.mpr h]
theorem b_ushr (n : Nat) (hn : n < 32) (x : Int32) (i : Nat) : bt ((x.toUInt32 >>> ((nI n).toUInt32 &&& Int32.toUInt32 31)).toInt32) i = bt x (n + i) := by
  show (x.toUInt32 >>> ((nI n).toUInt32 &&& Int32.toUInt32 31)).toBitVec.getLsbD i = x.toUInt32.toBitVec.getLsbD (n + i)
  rw [UInt32.toBitVec_shiftRight]
  show (x.toUInt32.toBitVec >>> (((nI n).toUInt32 &&& Int32.toUInt32 31).toBitVec % 32).toNat).getLsbD i = _
  rw [s_u n hn, BitVec.getLsbD_ushiftRight]
theorem b_sshr (n : Nat) (hn : n < 32) (x : Int32) {i : Nat} (hi : i < 32) : bt (x >>> (nI n &&& 31)) i = if n + i < 32 then bt x (n + i) else bt x 31 := by
  unfold bt
  rw [Int32.toBitVec_shiftRight]
  show (x.toBitVec.sshiftRight ((nI n &&& 31).toBitVec.smod 32).toNat).getLsbD i = _
  rw [s_l n hn, BitVec.getLsbD_sshiftRight, BitVec.msb_eq_getLsbD_last]
  simp [hi]
end
section
/-! counts -/
noncomputable def tj_b (P : Prop) : Nat := @ite Nat P (Classical.propDecidable P) 1 0
theorem tj_bt {P : Prop} (h : P) : tj_b P = 1 := by unfold tj_b; rw [if_pos h]
theorem tj_bf {P : Prop} (h : ¬ P) : tj_b P = 0 := by unfold tj_b; rw [if_neg h]
theorem tj_b_le (P : Prop) : tj_b P ≤ 1 := by
  by_cases h : P
  · rw [tj_bt h]; omega
  · rw [tj_bf h]; omega
noncomputable def tj_cn (P : Nat → Prop) : Nat → Nat
  | 0 => 0
  | n + 1 => tj_cn P n + tj_b (P n)
theorem tj_cn_s (P : Nat → Prop) (n : Nat) : tj_cn P (n + 1) = tj_cn P n + tj_b (P n) := rfl
theorem tj_cn_t {P : Nat → Prop} {n : Nat} (h : P n) : tj_cn P (n + 1) = tj_cn P n + 1 := by rw [tj_cn_s, tj_bt h]
theorem tj_cn_f {P : Nat → Prop} {n : Nat} (h : ¬ P n) : tj_cn P (n + 1) = tj_cn P n := by rw [tj_cn_s, tj_bf h, Nat.add_zero]
theorem tj_cn_le (P : Nat → Prop) : ∀ n, tj_cn P n ≤ n := by
  intro n
  induction n with
  | zero => exact Nat.le_refl 0
  | succ n ih => have := tj_b_le (P n); rw [tj_cn_s]; omega
theorem tj_cn_dj {P Q R : Nat → Prop} (hP : ∀ i, P i → R i) (hQ : ∀ i, Q i → R i) (hd : ∀ i, P i → ¬ Q i) : ∀ n, tj_cn P n + tj_cn Q n ≤ tj_cn R n := by
  intro n
  induction n with
  | zero => exact Nat.le_refl 0
  | succ n ih =>
    by_cases p : P n
    · rw [tj_cn_t p, tj_cn_f (hd n p), tj_cn_t (hP n p)]; omega
    · by_cases q : Q n
      · rw [tj_cn_f p, tj_cn_t q, tj_cn_t (hQ n q)]; omega
      · rw [tj_cn_f p, tj_cn_f q, tj_cn_s]; omega
theorem tj_cn_mono {P R : Nat → Prop} (hP : ∀ i, P i → R i) (n : Nat) : tj_cn P n ≤ tj_cn R n := by
  have := tj_cn_dj (Q := fun _ => False) hP (fun _ h => h.elim) (fun _ _ h => h) n
  omega
theorem tj_cn_grow (P : Nat → Prop) (n : Nat) : ∀ m, tj_cn P n ≤ tj_cn P (n + m) := by
  intro m
  induction m with
  | zero => exact Nat.le_refl _
  | succ m ih => rw [← Nat.add_assoc, tj_cn_s]; omega
theorem tj_cn_pos {P : Nat → Prop} {i n : Nat} (hi : i < n) (h : P i) : 1 ≤ tj_cn P n := by
  obtain ⟨m, rfl⟩ : ∃ m, n = (i + 1) + m := ⟨n - (i + 1), by omega⟩
  have a := tj_cn_grow P (i + 1) m
  rw [tj_cn_t h] at a
  omega
theorem tj_cn_cg {P Q : Nat → Prop} : ∀ n, (∀ i, i < n → (P i ↔ Q i)) → tj_cn P n = tj_cn Q n := by
  intro n
  induction n with
  | zero => exact fun _ => rfl
  | succ n ih =>
    intro h
    rw [tj_cn_s, tj_cn_s, ih (fun i hi => h i (by omega)), propext (h n (by omega))]
theorem tj_cn_none {P : Nat → Prop} : ∀ n, (∀ i, i < n → ¬ P i) → tj_cn P n = 0 := by
  intro n
  induction n with
  | zero => exact fun _ => rfl
  | succ n ih =>
    intro h
    rw [tj_cn_f (h n (by omega)), ih (fun i hi => h i (by omega))]
theorem tj_cn_ex {P : Nat → Prop} {n : Nat} (h : 0 < tj_cn P n) : ∃ i, i < n ∧ P i := by
  by_cases e : ∃ i, i < n ∧ P i
  · exact e
  · have := tj_cn_none (P := P) n (fun i hi hp => e ⟨i, hi, hp⟩)
    omega
theorem tj_cn_skip {P : Nat → Prop} (n : Nat) : ∀ m, (∀ i, n ≤ i → i < n + m → ¬ P i) → tj_cn P (n + m) = tj_cn P n := by
  intro m
  induction m with
  | zero => exact fun _ => rfl
  | succ m ih =>
    intro h
    rw [← Nat.add_assoc, tj_cn_f (h (n + m) (by omega) (by omega)), ih (fun i hi hj => h i hi (by omega))]
theorem tj_cn_rm {P : Nat → Prop} {K : Nat} (h : P K) : ∀ n, K < n → tj_cn (fun k => P k ∧ k ≠ K) n + 1 = tj_cn P n := by
  intro n
  induction n with
  | zero => intro hn; omega
  | succ n ih =>
    intro hn
    by_cases e : n = K
    · subst e
      rw [tj_cn_f (fun z => z.2 rfl), tj_cn_t h, tj_cn_cg (P := fun k => P k ∧ k ≠ n) (Q := P) n (fun i hi => ⟨fun z => z.1, fun z => ⟨z, by omega⟩⟩)]
    · have a := ih (by omega)
      by_cases p : P n
      · rw [tj_cn_t (P := fun k => P k ∧ k ≠ K) ⟨p, e⟩, tj_cn_t p]; omega
      · rw [tj_cn_f (P := fun k => P k ∧ k ≠ K) (fun z => p z.1), tj_cn_f p]; omega
/-! patterns, statements, fillings -/
def tj_ent (p k : Nat) : Nat := if k = 0 then p / 144 else if k = 1 then p / 12 % 12 else p % 12
def tj_par (s k : Nat) : Nat := if k = 0 then s / 32 else if k = 1 then s / 8 % 4 else s % 8
def tj_dig (c v : Nat) : Nat := if v = 0 then c / 729 else if v = 1 then c / 81 % 9 else if v = 2 then c / 9 % 9 else c % 9
def tj_val (g : Nat → Nat) (e : Nat) : Nat := if e < 8 then e else g (e - 8)
def tj_cod (g : Nat → Nat) : Nat := 729 * g 0 + 81 * g 1 + 9 * g 2 + g 3
def tj_vr (p v : Nat) : Prop := ∃ k, k < 3 ∧ tj_ent p k = 8 + v
theorem tj_ent_lt {p k : Nat} (hp : p < 1728) : tj_ent p k < 12 := by
  unfold tj_ent
  split
  · omega
  · split
    · omega
    · omega
theorem tj_par_lt {s k : Nat} (hs : s < 256) : tj_par s k < 8 := by
  unfold tj_par
  split
  · omega
  · split
    · omega
    · omega
theorem tj_par_1 {s : Nat} : tj_par s 1 < 4 := Nat.mod_lt _ (by omega)
theorem tj_s3 (s : Nat) : 32 * tj_par s 0 + 8 * tj_par s 1 + tj_par s 2 = s := by
  show 32 * (s / 32) + 8 * (s / 8 % 4) + s % 8 = s
  omega
theorem tj_par3 {a b c : Nat} (hb : b < 4) (hc : c < 8) : tj_par (32 * a + 8 * b + c) 0 = a ∧ tj_par (32 * a + 8 * b + c) 1 = b ∧ tj_par (32 * a + 8 * b + c) 2 = c := by
  refine ⟨?_, ?_, ?_⟩
  · show (32 * a + 8 * b + c) / 32 = a
    omega
  · show (32 * a + 8 * b + c) / 8 % 4 = b
    omega
  · show (32 * a + 8 * b + c) % 8 = c
    omega
theorem tj_dig_le {c v : Nat} (hc : c < 6561) : tj_dig c v ≤ 8 := by
  unfold tj_dig
  split
  · omega
  · split
    · omega
    · split
      · omega
      · omega
theorem tj_cod_dig (c : Nat) : tj_cod (tj_dig c) = c := by
  show 729 * (c / 729) + 81 * (c / 81 % 9) + 9 * (c / 9 % 9) + c % 9 = c
  omega
def tj_ok (g : Nat → Nat) : Prop := ∀ v, v < 4 → g v ≤ 8
def tj_e4 (f g : Nat → Nat) : Prop := ∀ v, v < 4 → f v = g v
theorem tj_e4_r (f : Nat → Nat) : tj_e4 f f := fun _ _ => rfl
theorem tj_e4_s {f g : Nat → Nat} (h : tj_e4 f g) : tj_e4 g f := fun v hv => (h v hv).symm
theorem tj_e4_t {f g h : Nat → Nat} (a : tj_e4 f g) (b : tj_e4 g h) : tj_e4 f h := fun v hv => (a v hv).trans (b v hv)
theorem tj_ok_dig {c : Nat} (hc : c < 6561) : tj_ok (tj_dig c) := fun _ _ => tj_dig_le hc
theorem tj_cod_cg {f g : Nat → Nat} (h : tj_e4 f g) : tj_cod f = tj_cod g := by
  unfold tj_cod
  rw [h 0 (by omega), h 1 (by omega), h 2 (by omega), h 3 (by omega)]
theorem tj_dig_cod {f : Nat → Nat} (h : tj_ok f) : tj_e4 (tj_dig (tj_cod f)) f := by
  have h0 := h 0 (by omega)
  have h1 := h 1 (by omega)
  have h2 := h 2 (by omega)
  have h3 := h 3 (by omega)
  intro v hv
  unfold tj_cod
  generalize hA : f 0 = A at *
  generalize hB : f 1 = B at *
  generalize hC : f 2 = C at *
  generalize hD : f 3 = D at *
  obtain rfl | rfl | rfl | rfl : v = 0 ∨ v = 1 ∨ v = 2 ∨ v = 3 := by omega
  · show (729 * A + 81 * B + 9 * C + D) / 729 = f 0
    omega
  · show (729 * A + 81 * B + 9 * C + D) / 81 % 9 = f 1
    omega
  · show (729 * A + 81 * B + 9 * C + D) / 9 % 9 = f 2
    omega
  · show (729 * A + 81 * B + 9 * C + D) % 9 = f 3
    omega
theorem tj_cod_lt {f : Nat → Nat} (h : tj_ok f) : tj_cod f < 6561 := by
  have h0 := h 0 (by omega)
  have h1 := h 1 (by omega)
  have h2 := h 2 (by omega)
  have h3 := h 3 (by omega)
  unfold tj_cod
  omega
theorem tj_val_c {g : Nat → Nat} {e : Nat} (h : e < 8) : tj_val g e = e := if_pos h
theorem tj_val_v {g : Nat → Nat} {e : Nat} (h : 8 ≤ e) : tj_val g e = g (e - 8) := if_neg (by omega)
theorem tj_val_cg {f g : Nat → Nat} (h : tj_e4 f g) {e : Nat} (he : e < 12) : tj_val f e = tj_val g e := by
  by_cases h8 : e < 8
  · rw [tj_val_c h8, tj_val_c h8]
  · rw [tj_val_v (by omega), tj_val_v (by omega), h _ (by omega)]
theorem tj_val_le {g : Nat → Nat} (h : tj_ok g) {e : Nat} (he : e < 12) : tj_val g e ≤ 8 := by
  by_cases h8 : e < 8
  · rw [tj_val_c h8]; omega
  · rw [tj_val_v (by omega)]; exact h _ (by omega)
/-! agrees, bind -/
def tj_a1 (g : Nat → Nat) (p s k : Nat) : Prop := tj_val g (tj_ent p k) = 8 ∨ tj_val g (tj_ent p k) = tj_par s k
def tj_a2 (p s k : Nat) : Prop := 8 ≤ tj_ent p k → tj_ent p k = tj_ent p ((k + 1) % 3) → tj_par s k = tj_par s ((k + 1) % 3)
def tj_ag (g : Nat → Nat) (p s : Nat) : Prop := (∀ k, k < 3 → tj_a1 g p s k) ∧ (∀ k, k < 3 → tj_a2 p s k)
def tj_pp (p s : Nat) : Prop := ∀ i j, i < 3 → j < 3 → 8 ≤ tj_ent p i → tj_ent p i = tj_ent p j → tj_par s i = tj_par s j
theorem tj_a2_pp {p s : Nat} (h : ∀ k, k < 3 → tj_a2 p s k) : tj_pp p s := by
  intro i j hi hj h8 e
  have a0 : 8 ≤ tj_ent p 0 → tj_ent p 0 = tj_ent p 1 → tj_par s 0 = tj_par s 1 := h 0 (by omega)
  have a1 : 8 ≤ tj_ent p 1 → tj_ent p 1 = tj_ent p 2 → tj_par s 1 = tj_par s 2 := h 1 (by omega)
  have a2 : 8 ≤ tj_ent p 2 → tj_ent p 2 = tj_ent p 0 → tj_par s 2 = tj_par s 0 := h 2 (by omega)
  clear h
  obtain rfl | rfl | rfl : i = 0 ∨ i = 1 ∨ i = 2 := by omega
  · obtain rfl | rfl | rfl : j = 0 ∨ j = 1 ∨ j = 2 := by omega
    · rfl
    · exact a0 h8 e
    · exact (a2 (by omega) e.symm).symm
  · obtain rfl | rfl | rfl : j = 0 ∨ j = 1 ∨ j = 2 := by omega
    · exact (a0 (by omega) e.symm).symm
    · rfl
    · exact a1 h8 e
  · obtain rfl | rfl | rfl : j = 0 ∨ j = 1 ∨ j = 2 := by omega
    · exact a2 h8 e
    · exact (a1 (by omega) e.symm).symm
    · rfl
theorem tj_pp_a2 {p s : Nat} (h : tj_pp p s) : ∀ k, k < 3 → tj_a2 p s k := fun k hk h8 e => h k _ hk (Nat.mod_lt _ (by omega)) h8 e
def tj_pt (g : Nat → Nat) (p s k : Nat) : Nat → Nat := fun v => if tj_ent p k = 8 + v then tj_par s k else g v
def tj_bn (g : Nat → Nat) (p s : Nat) : Nat → Nat := tj_pt (tj_pt (tj_pt g p s 0) p s 1) p s 2
theorem tj_bn_if (g : Nat → Nat) (p s v : Nat) : tj_bn g p s v = if tj_ent p 2 = 8 + v then tj_par s 2 else if tj_ent p 1 = 8 + v then tj_par s 1 else if tj_ent p 0 = 8 + v then tj_par s 0 else g v := rfl
theorem tj_bn_v {g : Nat → Nat} {p s k v : Nat} (ha : tj_pp p s) (hk : k < 3) (e : tj_ent p k = 8 + v) : tj_bn g p s v = tj_par s k := by
  rw [tj_bn_if]
  by_cases e2 : tj_ent p 2 = 8 + v
  · rw [if_pos e2]
    exact ha 2 k (by omega) hk (by omega) (by omega)
  · rw [if_neg e2]
    by_cases e1 : tj_ent p 1 = 8 + v
    · rw [if_pos e1]
      exact ha 1 k (by omega) hk (by omega) (by omega)
    · rw [if_neg e1]
      by_cases e0 : tj_ent p 0 = 8 + v
      · rw [if_pos e0]
        exact ha 0 k (by omega) hk (by omega) (by omega)
      · exfalso
        obtain rfl | rfl | rfl : k = 0 ∨ k = 1 ∨ k = 2 := by omega
        · exact e0 e
        · exact e1 e
        · exact e2 e
theorem tj_bn_n {g : Nat → Nat} {p s v : Nat} (h : ¬ tj_vr p v) : tj_bn g p s v = g v := by
  rw [tj_bn_if, if_neg (fun e => h ⟨2, by omega, e⟩), if_neg (fun e => h ⟨1, by omega, e⟩), if_neg (fun e => h ⟨0, by omega, e⟩)]
theorem tj_bn_ok {g : Nat → Nat} {p s : Nat} (hg : tj_ok g) (hs : s < 256) : tj_ok (tj_bn g p s) := by
  intro v hv
  have := hg v hv
  have h0 := tj_par_lt (k := 0) hs
  have h1 := tj_par_lt (k := 1) hs
  have h2 := tj_par_lt (k := 2) hs
  rw [tj_bn_if]
  split
  · omega
  · split
    · omega
    · split
      · omega
      · omega
/-! a pattern holds -/
def tj_sm (f : Nat → Nat) (p s : Nat) : Prop := ∀ k, k < 3 → tj_val f (tj_ent p k) = tj_par s k
def tj_ho (H : Nat → Prop) (f : Nat → Nat) (p : Nat) : Prop :=
  tj_val f (tj_ent p 0) < 8 ∧ tj_val f (tj_ent p 1) < 4 ∧ tj_val f (tj_ent p 2) < 8 ∧ H (32 * tj_val f (tj_ent p 0) + 8 * tj_val f (tj_ent p 1) + tj_val f (tj_ent p 2))
theorem tj_ho_sm {H : Nat → Prop} {f : Nat → Nat} {p : Nat} (h : tj_ho H f p) : ∃ s, s < 256 ∧ H s ∧ tj_sm f p s := by
  obtain ⟨h0, h1, h2, h3⟩ := h
  refine ⟨_, ?_, h3, ?_⟩
  · omega
  · have a := tj_par3 (a := tj_val f (tj_ent p 0)) h1 h2
    intro k hk
    obtain rfl | rfl | rfl : k = 0 ∨ k = 1 ∨ k = 2 := by omega
    · exact a.1.symm
    · exact a.2.1.symm
    · exact a.2.2.symm
theorem tj_sm_ho {H : Nat → Prop} {f : Nat → Nat} {p s : Nat} (hs : s < 256) (hH : H s) (h : tj_sm f p s) : tj_ho H f p := by
  unfold tj_ho
  rw [h 0 (by omega), h 1 (by omega), h 2 (by omega), tj_s3]
  exact ⟨tj_par_lt hs, tj_par_1, tj_par_lt hs, hH⟩
theorem tj_ho_cg {H : Nat → Prop} {f g : Nat → Nat} {p : Nat} (h : ∀ k, k < 3 → tj_val f (tj_ent p k) = tj_val g (tj_ent p k)) (hh : tj_ho H f p) : tj_ho H g p := by
  unfold tj_ho at hh ⊢
  rw [← h 0 (by omega), ← h 1 (by omega), ← h 2 (by omega)]
  exact hh
theorem tj_sm_pp {f : Nat → Nat} {p s : Nat} (h : tj_sm f p s) : tj_pp p s := by
  intro i j hi hj _ e
  rw [← h i hi, ← h j hj, e]
/-! keeps -/
def tj_k1 (k a b : Nat) : Prop := (k = 0 → a = b) ∧ (k = 1 → a ≠ b) ∧ (k = 2 → a < b)
def tj_ke (nc : Nat) (ck cf cs : Nat → Nat) (f : Nat → Nat) : Prop :=
  ∀ i, i < nc → tj_val f (cf i) ≠ 8 ∧ tj_val f (cs i) ≠ 8 ∧ tj_k1 (ck i) (tj_val f (cf i)) (tj_val f (cs i))
theorem tj_ke_cg {nc : Nat} {ck cf cs : Nat → Nat} {f g : Nat → Nat} (hf : ∀ i, i < nc → cf i < 12) (hs : ∀ i, i < nc → cs i < 12) (e : tj_e4 f g) (h : tj_ke nc ck cf cs f) : tj_ke nc ck cf cs g := by
  intro i hi
  have a := h i hi
  rw [tj_val_cg e (hf i hi), tj_val_cg e (hs i hi)] at a
  exact a
/-! the search: L1 (needed patterns), L2 (the extra one and the conditions) -/
def tj_L1 (H : Nat → Prop) (np : Nat → Nat) (R : Nat → Prop) (g f : Nat → Nat) : Prop :=
  (∀ v, v < 4 → g v ≠ 8 → f v = g v) ∧ (∀ v, v < 4 → g v = 8 → (f v ≠ 8 ↔ ∃ k, R k ∧ tj_vr (np k) v)) ∧ tj_ok f ∧ (∀ k, R k → tj_ho H f (np k))
theorem tj_L1_s {H : Nat → Prop} {np : Nat → Nat} {R : Nat → Prop} {K : Nat} (hK : R K) (hp : np K < 1728) {g f : Nat → Nat} (hg : tj_ok g) :
    tj_L1 H np R g f ↔ ∃ s, s < 256 ∧ H s ∧ tj_ag g (np K) s ∧ tj_L1 H np (fun k => R k ∧ k ≠ K) (tj_bn g (np K) s) f := by
  constructor
  · intro ⟨h1, h2, h3, h4⟩
    obtain ⟨s, hs, hH, sm⟩ := tj_ho_sm (h4 K hK)
    have pp := tj_sm_pp sm
    refine ⟨s, hs, hH, ⟨?_, tj_pp_a2 pp⟩, ?_, ?_, h3, fun k hk => h4 k hk.1⟩
    · intro k hk
      unfold tj_a1
      have e12 := tj_ent_lt (k := k) hp
      have a := sm k hk
      by_cases h8 : tj_ent (np K) k < 8
      · rw [tj_val_c h8] at a ⊢
        exact Or.inr a
      · rw [tj_val_v (by omega)] at a ⊢
        by_cases z : g (tj_ent (np K) k - 8) = 8
        · exact Or.inl z
        · rw [← h1 _ (by omega) z]
          exact Or.inr a
    · intro v hv hb
      by_cases w : tj_vr (np K) v
      · obtain ⟨k, hk, e⟩ := w
        rw [tj_bn_v pp hk e, ← sm k hk, e, tj_val_v (by omega), Nat.add_sub_cancel_left]
      · rw [tj_bn_n w] at hb ⊢
        exact h1 v hv hb
    · intro v hv hb
      by_cases w : tj_vr (np K) v
      · obtain ⟨k, hk, e⟩ := w
        rw [tj_bn_v pp hk e] at hb
        have := tj_par_lt (k := k) hs
        omega
      · rw [tj_bn_n w] at hb
        rw [h2 v hv hb]
        constructor
        · intro ⟨k, a, b⟩
          refine ⟨k, ⟨a, ?_⟩, b⟩
          intro e
          rw [e] at b
          exact w b
        · intro ⟨k, a, b⟩
          exact ⟨k, a.1, b⟩
  · intro ⟨s, hs, hH, ⟨ag1, ag2⟩, h1, h2, h3, h4⟩
    have pp := tj_a2_pp ag2
    have hv : ∀ v k, v < 4 → k < 3 → tj_ent (np K) k = 8 + v → f v = tj_par s k := by
      intro v k hv hk e
      have b := tj_bn_v (g := g) pp hk e
      have := tj_par_lt (k := k) hs
      rw [h1 v hv (by omega), b]
    refine ⟨?_, ?_, h3, ?_⟩
    · intro v hv' hb
      by_cases w : tj_vr (np K) v
      · obtain ⟨k, hk, e⟩ := w
        rw [hv v k hv' hk e]
        have a := ag1 k hk
        unfold tj_a1 at a
        rw [e, tj_val_v (by omega), Nat.add_sub_cancel_left] at a
        omega
      · have b := tj_bn_n (g := g) (s := s) w
        rw [h1 v hv' (by omega), b]
    · intro v hv' hb
      by_cases w : tj_vr (np K) v
      · refine ⟨fun _ => ⟨K, hK, w⟩, fun _ => ?_⟩
        obtain ⟨k, hk, e⟩ := w
        have := tj_par_lt (k := k) hs
        rw [hv v k hv' hk e]
        omega
      · have b := tj_bn_n (g := g) (s := s) w
        rw [h2 v hv' (by omega)]
        constructor
        · intro ⟨k, a, c⟩
          exact ⟨k, a.1, c⟩
        · intro ⟨k, a, c⟩
          refine ⟨k, ⟨a, ?_⟩, c⟩
          intro e
          rw [e] at c
          exact w c
    · intro k hk
      by_cases e : k = K
      · subst e
        refine tj_sm_ho hs hH ?_
        intro j hj
        have e12 := tj_ent_lt (k := j) hp
        by_cases h8 : tj_ent (np k) j < 8
        · have a := ag1 j hj
          unfold tj_a1 at a
          rw [tj_val_c h8] at a ⊢
          omega
        · rw [tj_val_v (by omega)]
          exact hv _ j (by omega) hj (by omega)
      · exact h4 k ⟨hk, e⟩
theorem tj_L1_0 {H : Nat → Prop} {np : Nat → Nat} {R : Nat → Prop} (hR : ∀ k, ¬ R k) {g f : Nat → Nat} (hg : tj_ok g) : tj_L1 H np R g f ↔ tj_e4 f g := by
  constructor
  · intro ⟨h1, h2, _, _⟩ v hv
    by_cases z : g v = 8
    · have a := h2 v hv z
      have b : ¬ f v ≠ 8 := fun q => by
        obtain ⟨k, hk, _⟩ := a.mp q
        exact hR k hk
      omega
    · exact h1 v hv z
  · intro h
    refine ⟨fun v hv _ => h v hv, ?_, ?_, fun k hk => absurd hk (hR k)⟩
    · intro v hv z
      refine ⟨fun q => absurd ((h v hv).trans z) q, ?_⟩
      intro ⟨k, hk, _⟩
      exact absurd hk (hR k)
    · intro v hv
      rw [h v hv]
      exact hg v hv
def tj_L2 (H : Nat → Prop) (xp : Option Nat) (K : (Nat → Nat) → Prop) (f : Nat → Nat) (code : Nat) : Prop :=
  match xp with
  | none => code = tj_cod f ∧ K f
  | some p => (∃ s, s < 256 ∧ H s ∧ tj_ag f p s ∧ code = tj_cod (tj_bn f p s) ∧ K (tj_bn f p s)) ∨ ((∀ s, s < 256 → H s → ¬ tj_ag f p s) ∧ code = tj_cod f ∧ K f)
/-! the reference's solution -/
def tj_B (nd : Nat) (np : Nat → Nat) (v : Nat) : Prop := ∃ k, k < nd ∧ tj_vr (np k) v
def tj_M (nd : Nat) (np : Nat → Nat) (p v : Nat) : Prop := tj_vr p v ∧ ¬ tj_B nd np v
def tj_ft (p s : Nat) : Prop := (∀ k, k < 3 → tj_ent p k < 8 → tj_ent p k = tj_par s k) ∧ tj_pp p s
def tj_xt (H : Nat → Prop) (nd : Nat) (np : Nat → Nat) (p : Nat) (f : Nat → Nat) : Prop :=
  ∃ s, s < 256 ∧ H s ∧ tj_ft p s ∧ ∀ k, k < 3 → 8 ≤ tj_ent p k → tj_B nd np (tj_ent p k - 8) → f (tj_ent p k - 8) = tj_par s k
def tj_XC (H : Nat → Prop) (nd : Nat) (np : Nat → Nat) (p : Nat) (f : Nat → Nat) : Prop :=
  (∃ v, v < 4 ∧ tj_M nd np p v) →
    ((∀ v, v < 4 → tj_M nd np p v → f v ≠ 8) ∨ (∀ v, v < 4 → tj_M nd np p v → f v = 8)) ∧
    ((∀ v, v < 4 → tj_M nd np p v → f v ≠ 8) → tj_ho H f p) ∧ ((∀ v, v < 4 → tj_M nd np p v → f v = 8) → ¬ tj_xt H nd np p f)
def tj_So (H : Nat → Prop) (nd : Nat) (np : Nat → Nat) (xp : Option Nat) (K : (Nat → Nat) → Prop) (f : Nat → Nat) : Prop :=
  (∀ v, v < 4 → tj_B nd np v → f v < 8) ∧ (∀ v, v < 4 → ¬ tj_B nd np v → (∀ p, xp = some p → ¬ tj_vr p v) → f v = 8) ∧
  (∀ k, k < nd → tj_ho H f (np k)) ∧ (∀ p, xp = some p → tj_XC H nd np p f) ∧ K f
end
section
/-! what the search offers is what the reference calls a solution -/
section TJM
variable {H : Nat → Prop} {nd : Nat} {np : Nat → Nat} {xp : Option Nat} {K : (Nat → Nat) → Prop}
theorem tj_hoB (hn : ∀ k, k < nd → np k < 1728) {f g : Nat → Nat} (h : ∀ v, v < 4 → tj_B nd np v → f v = g v) {k : Nat} (hk : k < nd) (hh : tj_ho H f (np k)) : tj_ho H g (np k) := by
  refine tj_ho_cg ?_ hh
  intro j hj
  have e12 := tj_ent_lt (k := j) (hn k hk)
  by_cases h8 : tj_ent (np k) j < 8
  · rw [tj_val_c h8, tj_val_c h8]
  · rw [tj_val_v (by omega), tj_val_v (by omega)]
    exact h _ (by omega) ⟨k, hk, j, hj, by omega⟩
theorem tj_So_cg (hn : ∀ k, k < nd → np k < 1728) (hx : ∀ p, xp = some p → p < 1728) (hK : ∀ f g, tj_e4 f g → K f → K g) {f g : Nat → Nat} (e : tj_e4 f g) (h : tj_So H nd np xp K f) : tj_So H nd np xp K g := by
  obtain ⟨h1, h2, h3, h4, h5⟩ := h
  refine ⟨fun v hv b => by rw [← e v hv]; exact h1 v hv b, fun v hv b w => by rw [← e v hv]; exact h2 v hv b w, fun k hk => tj_hoB hn (fun v hv _ => e v hv) hk (h3 k hk), ?_, hK f g e h5⟩
  intro p hp hM
  obtain ⟨a1, a2, a3⟩ := h4 p hp hM
  refine ⟨a1.imp (fun z v hv m => by rw [← e v hv]; exact z v hv m) (fun z v hv m => by rw [← e v hv]; exact z v hv m), fun z => ?_, fun z x => ?_⟩
  · exact tj_ho_cg (fun j _ => tj_val_cg e (tj_ent_lt (hx p hp))) (a2 (fun v hv m => by rw [e v hv]; exact z v hv m))
  · refine a3 (fun v hv m => by rw [e v hv]; exact z v hv m) ?_
    obtain ⟨s, hs, hH, ft, q⟩ := x
    refine ⟨s, hs, hH, ft, fun k hk h8 b => ?_⟩
    have e12 := tj_ent_lt (k := k) (hx p hp)
    rw [e _ (by omega)]
    exact q k hk h8 b
theorem tj_a1_v {g : Nat → Nat} {p s k v : Nat} (h : tj_a1 g p s k) (e : tj_ent p k = 8 + v) : g v = 8 ∨ g v = tj_par s k := by
  unfold tj_a1 at h
  rw [e, tj_val_v (by omega), Nat.add_sub_cancel_left] at h
  exact h
theorem tj_a1_c {g : Nat → Nat} {p s k : Nat} (h : tj_a1 g p s k) (e : tj_ent p k < 8) : tj_ent p k = tj_par s k := by
  unfold tj_a1 at h
  rw [tj_val_c e] at h
  omega
theorem tj_main1 (hn : ∀ k, k < nd → np k < 1728) (hx : ∀ p, xp = some p → p < 1728) (hK : ∀ f g, tj_e4 f g → K f → K g) {code : Nat} {f : Nat → Nat}
    (l : tj_L1 H np (fun k => k < nd) (fun _ => 8) f) (L2 : tj_L2 H xp K f code) : tj_So H nd np xp K (tj_dig code) := by
  obtain ⟨_, l2, l3, l4⟩ := l
  have fB : ∀ v, v < 4 → (f v ≠ 8 ↔ tj_B nd np v) := fun v hv => l2 v hv rfl
  have f1 : ∀ v, v < 4 → tj_B nd np v → f v < 8 := by
    intro v hv b
    have := (fB v hv).mpr b
    have := l3 v hv
    omega
  have f2 : ∀ v, v < 4 → ¬ tj_B nd np v → f v = 8 := by
    intro v hv b
    exact Classical.byContradiction fun z => b ((fB v hv).mp z)
  cases xp with
  | none =>
    obtain ⟨e, hk⟩ := L2
    have d : tj_e4 (tj_dig code) f := by rw [e]; exact tj_dig_cod l3
    exact tj_So_cg hn hx hK (tj_e4_s d) ⟨f1, fun v hv b _ => f2 v hv b, l4, fun p hp => (nomatch hp), hk⟩
  | some p =>
    have hp : p < 1728 := hx p rfl
    rcases L2 with ⟨s, hs, hH, ag, e, hk⟩ | ⟨hno, e, hk⟩
    · have pp := tj_a2_pp ag.2
      have ok := tj_bn_ok (p := p) l3 hs
      have d : tj_e4 (tj_dig code) (tj_bn f p s) := by rw [e]; exact tj_dig_cod ok
      have hB : ∀ v, v < 4 → tj_B nd np v → f v = tj_bn f p s v := by
        intro v hv b
        by_cases w : tj_vr p v
        · obtain ⟨k, hk, e⟩ := w
          rw [tj_bn_v pp hk e]
          have := tj_a1_v (ag.1 k hk) e
          have := f1 v hv b
          omega
        · rw [tj_bn_n w]
      refine tj_So_cg hn hx hK (tj_e4_s d) ⟨fun v hv b => by rw [← hB v hv b]; exact f1 v hv b, fun v hv b w => by rw [tj_bn_n (w p rfl)]; exact f2 v hv b, fun k hk => tj_hoB hn hB hk (l4 k hk), ?_, hk⟩
      intro p' hp' hM
      cases hp'
      obtain ⟨v0, hv0, m0⟩ := hM
      have ne : ∀ v, v < 4 → tj_M nd np p v → tj_bn f p s v ≠ 8 := by
        intro v hv m
        obtain ⟨⟨k, hk, e⟩, _⟩ := m
        rw [tj_bn_v pp hk e]
        have := tj_par_lt (k := k) hs
        omega
      refine ⟨Or.inl ne, fun _ => tj_sm_ho hs hH ?_, fun z => absurd (z v0 hv0 m0) (ne v0 hv0 m0)⟩
      intro k hk
      by_cases h8 : tj_ent p k < 8
      · rw [tj_val_c h8]
        exact tj_a1_c (ag.1 k hk) h8
      · rw [tj_val_v (by omega)]
        exact tj_bn_v pp hk (by omega)
    · have d : tj_e4 (tj_dig code) f := by rw [e]; exact tj_dig_cod l3
      refine tj_So_cg hn hx hK (tj_e4_s d) ⟨f1, fun v hv b _ => f2 v hv b, l4, ?_, hk⟩
      intro p' hp' hM
      cases hp'
      obtain ⟨v0, hv0, m0⟩ := hM
      have m8 : ∀ v, v < 4 → tj_M nd np p v → f v = 8 := fun v hv m => f2 v hv m.2
      refine ⟨Or.inr m8, fun z => absurd (m8 v0 hv0 m0) (z v0 hv0 m0), fun _ x => ?_⟩
      obtain ⟨s, hs, hH, ft, q⟩ := x
      refine hno s hs hH ⟨?_, tj_pp_a2 ft.2⟩
      intro k hk
      unfold tj_a1
      have e12 := tj_ent_lt (k := k) hp
      by_cases h8 : tj_ent p k < 8
      · rw [tj_val_c h8]
        exact Or.inr (ft.1 k hk h8)
      · rw [tj_val_v (by omega)]
        by_cases b : tj_B nd np (tj_ent p k - 8)
        · exact Or.inr (q k hk (by omega) b)
        · exact Or.inl (f2 _ (by omega) b)
theorem tj_main2 (hn : ∀ k, k < nd → np k < 1728) (hx : ∀ p, xp = some p → p < 1728) (hK : ∀ f g, tj_e4 f g → K f → K g) {code : Nat} (hc : code < 6561)
    (h : tj_So H nd np xp K (tj_dig code)) : ∃ f, tj_L1 H np (fun k => k < nd) (fun _ => 8) f ∧ tj_L2 H xp K f code := by
  obtain ⟨h1, h2, h3, h4, h5⟩ := h
  have ok := tj_ok_dig hc
  obtain ⟨f, fb, fn⟩ : ∃ f : Nat → Nat, (∀ v, tj_B nd np v → f v = tj_dig code v) ∧ (∀ v, ¬ tj_B nd np v → f v = 8) :=
    ⟨fun v => @ite Nat (tj_B nd np v) (Classical.propDecidable _) (tj_dig code v) 8, fun v b => if_pos b, fun v b => if_neg b⟩
  have cE : ∀ g, tj_e4 (tj_dig code) g → code = tj_cod g := fun g e => (tj_cod_dig code).symm.trans (tj_cod_cg e)
  refine ⟨f, ⟨fun v hv z => absurd rfl z, fun v hv _ => ⟨fun z => Classical.byContradiction fun nb => z (fn v nb), fun b => ?_⟩, ?_, fun k hk => tj_hoB hn (fun v _ b => (fb v b).symm) hk (h3 k hk)⟩, ?_⟩
  · have b' : tj_B nd np v := b
    have := h1 v hv b'
    rw [fb v b']
    omega
  · intro v hv
    by_cases b : tj_B nd np v
    · rw [fb v b]; exact ok v hv
    · rw [fn v b]; exact Nat.le_refl 8
  · cases xp with
    | none =>
      have e : tj_e4 (tj_dig code) f := by
        intro v hv
        by_cases b : tj_B nd np v
        · rw [fb v b]
        · rw [fn v b]
          exact h2 v hv b (fun p e => (nomatch e))
      exact ⟨cE f e, hK _ _ e h5⟩
    | some p =>
      have hp : p < 1728 := hx p rfl
      have xc := h4 p rfl
      by_cases hM : ∃ v, v < 4 ∧ tj_M nd np p v
      · obtain ⟨c1, c2, c3⟩ := xc hM
        rcases c1 with c | c
        · obtain ⟨s, hs, hH, sm⟩ := tj_ho_sm (c2 c)
          have pp := tj_sm_pp sm
          have e : tj_e4 (tj_dig code) (tj_bn f p s) := by
            intro v hv
            by_cases w : tj_vr p v
            · obtain ⟨k, hk, e⟩ := w
              rw [tj_bn_v pp hk e, ← sm k hk, e, tj_val_v (by omega), Nat.add_sub_cancel_left]
            · rw [tj_bn_n w]
              by_cases b : tj_B nd np v
              · rw [fb v b]
              · rw [fn v b]
                exact h2 v hv b (fun p' e' => by cases e'; exact w)
          refine Or.inl ⟨s, hs, hH, ⟨?_, tj_pp_a2 pp⟩, cE _ e, hK _ _ e h5⟩
          intro k hk
          unfold tj_a1
          have e12 := tj_ent_lt (k := k) hp
          have a := sm k hk
          by_cases h8 : tj_ent p k < 8
          · rw [tj_val_c h8] at a ⊢
            exact Or.inr a
          · rw [tj_val_v (by omega)] at a ⊢
            by_cases b : tj_B nd np (tj_ent p k - 8)
            · rw [fb _ b]
              exact Or.inr a
            · exact Or.inl (fn _ b)
        · have e : tj_e4 (tj_dig code) f := by
            intro v hv
            by_cases b : tj_B nd np v
            · rw [fb v b]
            · rw [fn v b]
              by_cases w : tj_vr p v
              · exact c v hv ⟨w, b⟩
              · exact h2 v hv b (fun p' e' => by cases e'; exact w)
          refine Or.inr ⟨?_, cE _ e, hK _ _ e h5⟩
          intro s hs hH ag
          refine c3 c ⟨s, hs, hH, ⟨fun k hk h8 => tj_a1_c (ag.1 k hk) h8, tj_a2_pp ag.2⟩, fun k hk h8 b => ?_⟩
          have e12 := tj_ent_lt (k := k) hp
          have a := tj_a1_v (v := tj_ent p k - 8) (ag.1 k hk) (by omega)
          have a1 := h1 _ (by omega) b
          rw [fb _ b] at a
          omega
      · have e : tj_e4 (tj_dig code) f := by
          intro v hv
          by_cases b : tj_B nd np v
          · rw [fb v b]
          · rw [fn v b]
            by_cases w : tj_vr p v
            · exact absurd ⟨v, hv, w, b⟩ hM
            · exact h2 v hv b (fun p' e' => by cases e'; exact w)
        by_cases ex : ∃ s, s < 256 ∧ H s ∧ tj_ag f p s
        · obtain ⟨s, hs, hH, ag⟩ := ex
          have e2 : tj_e4 (tj_dig code) (tj_bn f p s) := by
            intro v hv
            by_cases w : tj_vr p v
            · have b : tj_B nd np v := Classical.byContradiction fun nb => hM ⟨v, hv, w, nb⟩
              obtain ⟨k, hk, e'⟩ := w
              rw [tj_bn_v (tj_a2_pp ag.2) hk e']
              have a := tj_a1_v (ag.1 k hk) e'
              have a1 := h1 v hv b
              rw [fb v b] at a
              omega
            · rw [tj_bn_n w]
              exact e v hv
          exact Or.inl ⟨s, hs, hH, ag, cE _ e2, hK _ _ e2 h5⟩
        · exact Or.inr ⟨fun s hs hH ag => ex ⟨s, hs, hH, ag⟩, cE _ e, hK _ _ e h5⟩
end TJM
/-! weights: how many fillings by octal digits extend a filling -/
def tj_od (e v : Nat) : Nat := if v = 0 then e / 512 else if v = 1 then e / 64 % 8 else if v = 2 then e / 8 % 8 else e % 8
def tj_E (g : Nat → Nat) (e : Nat) : Prop := ∀ v, v < 4 → g v = 8 ∨ tj_od e v = g v
def tj_se (p e : Nat) : Nat := 32 * tj_val (tj_od e) (tj_ent p 0) + 8 * tj_val (tj_od e) (tj_ent p 1) + tj_val (tj_od e) (tj_ent p 2)
noncomputable def tj_W (g : Nat → Nat) : Nat := tj_cn (tj_E g) 4096
noncomputable def tj_w (g : Nat → Nat) (p c : Nat) : Nat := tj_cn (fun e => tj_E g e ∧ c ≤ tj_se p e) 4096
theorem tj_W_le (g : Nat → Nat) : tj_W g ≤ 4096 := tj_cn_le _ _
theorem tj_w_le (g : Nat → Nat) (p c : Nat) : tj_w g p c ≤ tj_W g := tj_cn_mono (fun _ h => h.1) _
theorem tj_W_pos {g : Nat → Nat} (h : tj_ok g) : 1 ≤ tj_W g := by
  have h0 := h 0 (by omega)
  have h1 := h 1 (by omega)
  have h2 := h 2 (by omega)
  have h3 := h 3 (by omega)
  have q : ∀ n : Nat, n ≤ 8 → ∃ m, m < 8 ∧ (n = 8 ∨ m = n) := by
    intro n hn
    by_cases z : n = 8
    · exact ⟨0, by omega, Or.inl z⟩
    · exact ⟨n, by omega, Or.inr rfl⟩
  obtain ⟨a, la, ea⟩ := q _ h0
  obtain ⟨b, lb, eb⟩ := q _ h1
  obtain ⟨c, lc, ec⟩ := q _ h2
  obtain ⟨d, ld, ed⟩ := q _ h3
  refine tj_cn_pos (i := 512 * a + 64 * b + 8 * c + d) (by omega) ?_
  intro v hv
  obtain rfl | rfl | rfl | rfl : v = 0 ∨ v = 1 ∨ v = 2 ∨ v = 3 := by omega
  · show g 0 = 8 ∨ (512 * a + 64 * b + 8 * c + d) / 512 = g 0
    omega
  · show g 1 = 8 ∨ (512 * a + 64 * b + 8 * c + d) / 64 % 8 = g 1
    omega
  · show g 2 = 8 ∨ (512 * a + 64 * b + 8 * c + d) / 8 % 8 = g 2
    omega
  · show g 3 = 8 ∨ (512 * a + 64 * b + 8 * c + d) % 8 = g 3
    omega
theorem tj_w_s {g : Nat → Nat} {p s c : Nat} (hp : p < 1728) (hs : s < 256) (hc : c ≤ s) (ag : tj_ag g p s) : tj_W (tj_bn g p s) + tj_w g p (s + 1) ≤ tj_w g p c := by
  have pp := tj_a2_pp ag.2
  have hse : ∀ e, tj_E (tj_bn g p s) e → tj_se p e = s := by
    intro e he
    have a : ∀ k, k < 3 → tj_val (tj_od e) (tj_ent p k) = tj_par s k := by
      intro k hk
      have e12 := tj_ent_lt (k := k) hp
      by_cases h8 : tj_ent p k < 8
      · rw [tj_val_c h8]
        exact tj_a1_c (ag.1 k hk) h8
      · rw [tj_val_v (by omega)]
        have b := tj_bn_v (g := g) (v := tj_ent p k - 8) pp hk (by omega)
        have := tj_par_lt (k := k) hs
        have := he (tj_ent p k - 8) (by omega)
        omega
    unfold tj_se
    rw [a 0 (by omega), a 1 (by omega), a 2 (by omega), tj_s3]
  have hE : ∀ e, tj_E (tj_bn g p s) e → tj_E g e := by
    intro e he v hv
    have q := he v hv
    by_cases w : tj_vr p v
    · obtain ⟨k, hk, e'⟩ := w
      have a := tj_a1_v (ag.1 k hk) e'
      have b := tj_bn_v (g := g) pp hk e'
      have := tj_par_lt (k := k) hs
      omega
    · rw [tj_bn_n w] at q
      exact q
  have h1 : ∀ e, tj_E (tj_bn g p s) e → tj_E g e ∧ c ≤ tj_se p e := fun e he => ⟨hE e he, by rw [hse e he]; exact hc⟩
  have h2 : ∀ e, tj_E g e ∧ s + 1 ≤ tj_se p e → tj_E g e ∧ c ≤ tj_se p e := fun e he => ⟨he.1, by have := he.2; omega⟩
  have h3 : ∀ e, tj_E (tj_bn g p s) e → ¬ (tj_E g e ∧ s + 1 ≤ tj_se p e) := fun e he hq => by
    have a := hse e he
    have b := hq.2
    omega
  exact tj_cn_dj h1 h2 h3 4096
end
section
/-! loops: all, count -/
theorem tj_all {W : Nat → Nat → Prop} {c : Nat → Prop} {E A : Prop} (e : Nat) (hs : ∀ n k, k < e → (c k → W n (k + 1)) → (¬ c k → E) → W (n + 1) k) (hx : ∀ n, A → W (n + 1) e)
    (ht : (∀ k, k < e → c k) → A) (hf : (¬ ∀ k, k < e → c k) → E) : W (e + 1) 0 := by
  have key : ∀ m k, k + m = e → (∀ j, j < k → c j) → W (m + 1) k := by
    intro m
    induction m with
    | zero =>
      intro k hk hj
      have e' : k = e := by omega
      rw [e'] at hj ⊢
      exact hx 0 (ht hj)
    | succ m ih =>
      intro k hk hj
      refine hs (m + 1) k (by omega) (fun hc => ih (k + 1) (by omega) (fun j hj' => ?_)) (fun hc => hf (fun z => hc (z k (by omega))))
      by_cases q : j = k
      · rw [q]; exact hc
      · exact hj j (by omega)
  exact key e 0 (by omega) (fun j hj => absurd hj (by omega))
theorem tj_cnt {W : Nat → Nat → Nat → Prop} {c : Nat → Prop} {A : Prop} (e : Nat) (hs : ∀ n a k, k < e → a ≤ k → (c k → W n (a + 1) (k + 1)) → (¬ c k → W n a (k + 1)) → W (n + 1) a k) (hx : ∀ n, A → W (n + 1) (tj_cn c e) e)
    (ht : A) : W (e + 1) 0 0 := by
  have key : ∀ m k, k + m = e → W (m + 1) (tj_cn c k) k := by
    intro m
    induction m with
    | zero =>
      intro k hk
      have e' : k = e := by omega
      rw [e']
      exact hx 0 ht
    | succ m ih =>
      intro k hk
      refine hs (m + 1) _ k (by omega) (tj_cn_le c k) (fun hc => ?_) (fun hc => ?_)
      · rw [← tj_cn_t hc]; exact ih (k + 1) (by omega)
      · rw [← tj_cn_f hc]; exact ih (k + 1) (by omega)
  exact key e 0 (by omega)
/-! bits -/
theorem tj_b1 : ∀ i, i < 32 → bt 1 i = decide (i = 0) := by decide +kernel
theorem tj_and1 (y : Int32) : y &&& 1 = if bt y 0 = true then 1 else 0 := by
  apply b_ext
  intro i hi
  rw [b_and, tj_b1 i hi]
  by_cases z : i = 0
  · subst z
    cases h : bt y 0
    · rw [if_neg (by decide), b_0]; rfl
    · rw [if_pos rfl, tj_b1 0 hi]; rfl
  · rw [decide_eq_false z, Bool.and_false]
    cases h : bt y 0
    · rw [if_neg (by decide), b_0]
    · rw [if_pos rfl, tj_b1 i hi, decide_eq_false z]
theorem tj_and1_1 (y : Int32) : (y &&& 1) = 1 ↔ bt y 0 = true := by
  rw [tj_and1]
  by_cases h : bt y 0 = true
  · rw [if_pos h]; exact ⟨fun _ => h, fun _ => rfl⟩
  · rw [if_neg h]; exact ⟨fun z => absurd z (by decide), fun z => absurd z h⟩
theorem tj_and1_0 (y : Int32) : (y &&& 1) = 0 ↔ ¬ bt y 0 = true := by
  rw [tj_and1]
  by_cases h : bt y 0 = true
  · rw [if_pos h]; exact ⟨fun z => absurd z (by decide), fun z => absurd h z⟩
  · rw [if_neg h]; exact ⟨fun _ => h, fun _ => rfl⟩
theorem tj_sh0 (x : Int32) {n : Nat} (hn : n < 32) : bt (x >>> (nI n &&& 31)) 0 = bt x n := by
  rw [b_sshr n hn x (by omega), if_pos (by omega), Nat.add_zero]
theorem tj_ush0 (x : Int32) {n : Nat} (hn : n < 32) : bt ((x.toUInt32 >>> ((nI n).toUInt32 &&& Int32.toUInt32 31)).toInt32) 0 = bt x n := by
  rw [b_ushr n hn x 0, Nat.add_zero]
theorem tj_sh_z {x : Int32} {n : Nat} (hn : n < 32) (h : x >>> (nI n &&& 31) = 0) {j : Nat} (hj : n ≤ j) (h2 : j < 32) : ¬ bt x j = true := by
  have a := b_sshr n hn x (i := j - n) (by omega)
  rw [h, b_0, if_pos (by omega), show n + (j - n) = j from by omega] at a
  rw [← a]
  decide
theorem tj_1sh {n : Nat} (hn : n < 32) {i : Nat} (hi : i < 32) : bt ((1 : Int32) <<< (nI n &&& 31)) i = decide (i = n) := by
  rw [b_shl n hn 1 hi, tj_b1 _ (by omega)]
  by_cases h : i = n
  · subst h
    rw [decide_eq_true (Nat.le_refl i), decide_eq_true (Nat.sub_self i), decide_eq_true rfl]; rfl
  · rw [decide_eq_false h]
    by_cases h2 : n ≤ i
    · rw [decide_eq_false (p := i - n = 0) (by omega), Bool.and_false]
    · rw [decide_eq_false h2, Bool.false_and]
theorem tj_set {x : Int32} {n : Nat} (hn : n < 32) {i : Nat} (hi : i < 32) : bt (x ||| ((1 : Int32) <<< (nI n &&& 31))) i = true ↔ bt x i = true ∨ i = n := by
  rw [b_or, tj_1sh hn hi, Bool.or_eq_true, decide_eq_true_eq]
theorem tj_clr {x : Int32} {n : Nat} (hn : n < 32) {i : Nat} (hi : i < 32) : bt (x &&& (((1 : Int32) <<< (nI n &&& 31)) ^^^ (-1))) i = true ↔ bt x i = true ∧ i ≠ n := by
  rw [b_and, b_xor, b_m1 i hi, tj_1sh hn hi, Bool.and_eq_true]
  by_cases h : i = n
  · rw [decide_eq_true h]; exact ⟨fun z => absurd z.2 (by decide), fun z => absurd h z.2⟩
  · rw [decide_eq_false h]; exact ⟨fun z => ⟨z.1, h⟩, fun z => ⟨z.1, rfl⟩⟩
/-! small methods of X -/
theorem tj_xe {post : Int32 → Prop} {p k : Nat} (hp : p < 1728) (hk : k < 3) (h : post (nI (tj_ent p k))) : wpX_entryOf post (nI p) (nI k) := by
  have e12 : nI p / 12 = nI (p / 12) := pk_div (d := 12) (by omega) (by omega) (by omega)
  obtain rfl | rfl | rfl : k = 0 ∨ k = 1 ∨ k = 2 := by omega
  · have e : nI p / 144 = nI (p / 144) := pk_div (d := 144) (by omega) (by omega) (by omega)
    refine br_t rfl ⟨by decide, ?_⟩
    rw [e]; exact h
  · have e2 : nI (p / 12) - nI (p / 12) / 12 * 12 = nI (p / 12 % 12) := pk_rem (d := 12) (by omega) (by omega) (by omega)
    refine br_f (by decide) (br_t rfl ⟨by decide, by decide, ?_⟩)
    rw [e12, e2]; exact h
  · have e2 : nI p - nI p / 12 * 12 = nI (p % 12) := pk_rem (d := 12) (by omega) (by omega) (by omega)
    refine br_f (by decide) (br_f (by decide) ⟨by decide, ?_⟩)
    rw [e2]; exact h
theorem tj_xp {post : Int32 → Prop} {s k : Nat} (hs : s < 256) (hk : k < 3) (h : post (nI (tj_par s k))) : wpX_partOf post (nI s) (nI k) := by
  obtain rfl | rfl | rfl : k = 0 ∨ k = 1 ∨ k = 2 := by omega
  · have e : nI s >>> ((5 : Int32) &&& 31) = nI (s / 32) := pk_shrN (by omega) _ 5 (by decide)
    refine br_t rfl ?_
    rw [e]; exact h
  · have e : nI s >>> ((3 : Int32) &&& 31) = nI (s / 8) := pk_shrN (by omega) _ 3 (by decide)
    have e2 : nI (s / 8) &&& 3 = nI (s / 8 % 4) := pk_andN (by omega) 2 (by decide)
    refine br_f (by decide) (br_t rfl ?_)
    rw [e, e2]; exact h
  · have e : nI s &&& 7 = nI (s % 8) := pk_andN (by omega) 3 (by decide)
    refine br_f (by decide) (br_f (by decide) ?_)
    rw [e]; exact h
theorem tj_xdg {post : Int32 → Prop} {c v : Nat} (hc : c < 6561) (hv : v < 4) (h : post (nI (tj_dig c v))) : wpX_digit post (nI c) (nI v) := by
  obtain rfl | rfl | rfl | rfl : v = 0 ∨ v = 1 ∨ v = 2 ∨ v = 3 := by omega
  · have e : nI c / 729 = nI (c / 729) := pk_div (d := 729) (by omega) (by omega) (by omega)
    refine br_t rfl ⟨by decide, ?_⟩
    rw [e]; exact h
  · have e : nI c / 81 = nI (c / 81) := pk_div (d := 81) (by omega) (by omega) (by omega)
    have e2 : nI (c / 81) - nI (c / 81) / 9 * 9 = nI (c / 81 % 9) := pk_rem (d := 9) (by omega) (by omega) (by omega)
    refine br_f (by decide) (br_t rfl ⟨by decide, by decide, ?_⟩)
    rw [e, e2]; exact h
  · have e : nI c / 9 = nI (c / 9) := pk_div (d := 9) (by omega) (by omega) (by omega)
    have e2 : nI (c / 9) - nI (c / 9) / 9 * 9 = nI (c / 9 % 9) := pk_rem (d := 9) (by omega) (by omega) (by omega)
    refine br_f (by decide) (br_f (by decide) (br_t rfl ⟨by decide, by decide, ?_⟩))
    rw [e, e2]; exact h
  · have e2 : nI c - nI c / 9 * 9 = nI (c % 9) := pk_rem (d := 9) (by omega) (by omega) (by omega)
    refine br_f (by decide) (br_f (by decide) (br_f (by decide) ⟨by decide, ?_⟩))
    rw [e2]; exact h
section TJY
variable {xc xn xe xd yb ym : Int32} {he ne ki fi sd gi so : Nat → Int32}
theorem tj_ye {post : Int32 → Prop} {p k : Nat} (hp : p < 1728) (hk : k < 3) (h : post (nI (tj_ent p k))) : wpY_entry post (xc, xn, xe, xd, yb, ym, he, ne, ki, fi, sd, gi, so) (nI p) (nI k) := tj_xe (post := post) (p := p) (k := k) hp hk h
theorem tj_yp {post : Int32 → Prop} {s k : Nat} (hs : s < 256) (hk : k < 3) (h : post (nI (tj_par s k))) : wpY_part post (xc, xn, xe, xd, yb, ym, he, ne, ki, fi, sd, gi, so) (nI s) (nI k) := by
  obtain rfl | rfl | rfl : k = 0 ∨ k = 1 ∨ k = 2 := by omega
  · have e : nI s / 32 = nI (s / 32) := pk_div (d := 32) (by omega) (by omega) (by omega)
    refine br_t rfl ⟨by decide, ?_⟩
    rw [e]; exact h
  · have e : nI s / 8 = nI (s / 8) := pk_div (d := 8) (by omega) (by omega) (by omega)
    have e2 : nI (s / 8) - nI (s / 8) / 4 * 4 = nI (s / 8 % 4) := pk_rem (d := 4) (by omega) (by omega) (by omega)
    refine br_f (by decide) (br_t rfl ⟨by decide, by decide, ?_⟩)
    rw [e, e2]; exact h
  · have e2 : nI s - nI s / 8 * 8 = nI (s % 8) := pk_rem (d := 8) (by omega) (by omega) (by omega)
    refine br_f (by decide) (br_f (by decide) ⟨by decide, ?_⟩)
    rw [e2]; exact h
theorem tj_ydg {post : Int32 → Prop} {c v : Nat} (hc : c < 6561) (hv : v < 4) (h : post (nI (tj_dig c v))) : wpY_digit post (xc, xn, xe, xd, yb, ym, he, ne, ki, fi, sd, gi, so) (nI c) (nI v) := tj_xdg (post := post) (c := c) (v := v) hc hv h
end TJY
section TJX
variable {xc xn xe xd xu : Int32} {ob su ne ki fi sd bo ta cu fo ma : Nat → Int32}
theorem tj_xv {post : Int32 → Prop} {g : Nat → Nat} {e d : Nat} {b : Int32} (he : e < 12) (hd : d < 6) (hb : ∀ v, v < 4 → bo (4 * d + v) = nI (g v)) (eb : b = nI (4 * d)) (h : post (nI (tj_val g e))) : wpX_valueOf post (xc, xn, xe, xd, xu, ob, su, ne, ki, fi, sd, bo, ta, cu, fo, ma) (nI e) b := by
  subst eb
  by_cases h8 : e < 8
  · rw [tj_val_c h8] at h
    exact br_f (nI_ge (b := 8) h8 (by decide)) h
  · have e1 : nI (4 * d) + nI e - 8 = nI (4 * d + (e - 8)) := by
      rw [nI_add]
      have := pk_sub (a := 4 * d + e) (b := 8) (by omega)
      rw [show 4 * d + (e - 8) = 4 * d + e - 8 from by omega]
      exact this
    rw [tj_val_v (by omega), ← hb _ (by omega)] at h
    refine br_t (nI_le (a := 8) (by omega) (by omega)) ⟨?_, ?_⟩
    · rw [e1]; exact vp_in_nI (by omega) (by omega)
    · rw [e1, nI_clamp (by omega)]; exact h
theorem tj_xh {post : Int32 → Prop} {H : Nat → Prop} {s : Nat} (hs : s < 256) (hob : ∀ r o, r < 32 → o < 8 → (bt (ob r) o = true ↔ H (8 * r + o))) (h1 : H s → post 1) (h0 : ¬ H s → post 0) : wpX_isHeld post (xc, xn, xe, xd, xu, ob, su, ne, ki, fi, sd, bo, ta, cu, fo, ma) (nI s) := by
  have e : nI s >>> ((3 : Int32) &&& 31) = nI (s / 8) := pk_shrN (by omega) _ 3 (by decide)
  have e2 : nI s &&& 7 = nI (s % 8) := pk_andN (by omega) 3 (by decide)
  have q := hob (s / 8) (s % 8) (by omega) (by omega)
  rw [show 8 * (s / 8) + s % 8 = s from by omega] at q
  refine And.intro ?_ ?_
  · rw [e]; exact vp_in_nI (by omega) (by omega)
  · rw [e, e2, nI_clamp (by omega)]
    exact ek_if ((tj_and1_1 _).trans (by rw [tj_sh0 _ (by omega)]; exact q)) h1 h0
def tj_mk (ma : Nat → Int32) (c : Nat) : Prop := bt (ma (c / 32)) (c % 32) = true
theorem tj_xm {post : Int32 → Prop} {c : Nat} (hc : c < 6561) (h1 : tj_mk ma c → post 1) (h0 : ¬ tj_mk ma c → post 0) : wpX_marked post (xc, xn, xe, xd, xu, ob, su, ne, ki, fi, sd, bo, ta, cu, fo, ma) (nI c) := by
  have e : nI c >>> ((5 : Int32) &&& 31) = nI (c / 32) := pk_shrN (by omega) _ 5 (by decide)
  have e2 : nI c &&& 31 = nI (c % 32) := pk_andN (by omega) 5 (by decide)
  refine And.intro ?_ ?_
  · rw [e]; exact vp_in_nI (by omega) (by omega)
  · rw [e, e2, nI_clamp (by omega)]
    exact ek_if ((tj_and1_1 _).trans (by rw [tj_ush0 _ (by omega)]; exact Iff.rfl)) h1 h0
/-! agrees -/
theorem tj_xa3 {post : Int32 → Prop} {g : Nat → Nat} {p s d n k : Nat} {b : Int32} (hg : tj_ok g) (hp : p < 1728) (hs : s < 256) (hd : d < 6) (hb : ∀ v, v < 4 → bo (4 * d + v) = nI (g v)) (eb : b = nI (4 * d)) (hk : k < 3)
    (ht : tj_a1 g p s k → wX_agrees_3 post (nI p) (nI s) b xc xn xe xd xu ob su ne ki fi sd bo ta cu fo ma n (nI (k + 1))) (hf : ¬ tj_a1 g p s k → post 0) : wX_agrees_3 post (nI p) (nI s) b xc xn xe xd xu ob su ne ki fi sd bo ta cu fo ma (n + 1) (nI k) := by
  have hv := tj_val_le hg (tj_ent_lt (k := k) hp)
  have hq := tj_par_lt (k := k) hs
  refine br_f (nI_ge (b := 3) hk (by decide)) ?_
  refine tj_xe hp hk ?_
  refine tj_xv (tj_ent_lt hp) hd hb eb ?_
  refine pk_eq (tj_val g (tj_ent p k)) 8 (fun h => ?_) (fun h => ?_)
  · exact nm_r (nI_1 k) (ht (Or.inl h))
  · refine tj_xp hs hk ?_
    exact pk_eq (tj_val g (tj_ent p k)) (tj_par s k) (fun h' => nm_r (nI_1 k) (ht (Or.inr h'))) (fun h' => hf (fun z => z.elim h h'))
theorem tj_xa51 {post : Int32 → Prop} {p s n k : Nat} (hp : p < 1728) (hs : s < 256) (hk : k < 3)
    (ht : tj_a2 p s k → wX_agrees_51 post (nI p) (nI s) xc xn xe xd xu ob su ne ki fi sd bo ta cu fo ma n (nI (k + 1))) (hf : ¬ tj_a2 p s k → post 0) : wX_agrees_51 post (nI p) (nI s) xc xn xe xd xu ob su ne ki fi sd bo ta cu fo ma (n + 1) (nI k) := by
  have e1 := tj_ent_lt (k := k) hp
  have e2 := tj_ent_lt (k := (k + 1) % 3) hp
  have q1 := tj_par_lt (k := k) hs
  have q2 := tj_par_lt (k := (k + 1) % 3) hs
  have hk' : (k + 1) % 3 < 3 := Nat.mod_lt _ (by omega)
  have r3 : nI k + 1 - (nI k + 1) / 3 * 3 = nI ((k + 1) % 3) := by
    rw [nI_1]
    exact pk_rem (d := 3) (by omega) (by omega) (by omega)
  refine br_f (nI_ge (b := 3) hk (by decide)) ?_
  refine tj_xe hp hk ?_
  refine And.intro (by decide) ?_
  rw [r3]
  refine tj_xe hp hk' ?_
  refine pk_lt (tj_ent p k) 8 (fun h => nm_r (nI_1 k) (ht (fun z => by omega))) (fun h8 => ?_)
  refine pk_eq (tj_ent p k) (tj_ent p ((k + 1) % 3)) (fun he => ?_) (fun he => nm_r (nI_1 k) (ht (fun _ z => absurd z he)))
  refine tj_xp hs hk ?_
  refine And.intro (by decide) ?_
  refine tj_xp hs hk' ?_
  exact pk_eq (tj_par s k) (tj_par s ((k + 1) % 3)) (fun hq => nm_r (nI_1 k) (ht (fun _ _ => hq))) (fun hq => hf (fun z => hq (z h8 he)))
theorem tj_xag {post : Int32 → Prop} {g : Nat → Nat} {p s d : Nat} {b : Int32} (hg : tj_ok g) (hp : p < 1728) (hs : s < 256) (hd : d < 6) (hb : ∀ v, v < 4 → bo (4 * d + v) = nI (g v)) (eb : b = nI (4 * d))
    (ht : tj_ag g p s → post 1) (hf : ¬ tj_ag g p s → post 0) : wpX_agrees post (xc, xn, xe, xd, xu, ob, su, ne, ki, fi, sd, bo, ta, cu, fo, ma) (nI p) (nI s) b := by
  refine Exists.intro 4 ?_
  refine tj_all (W := fun n k => wX_agrees_3 post (nI p) (nI s) b xc xn xe xd xu ob su ne ki fi sd bo ta cu fo ma n (nI k)) (c := tj_a1 g p s) (E := post 0) (A := ∃ n, wX_agrees_51 post (nI p) (nI s) xc xn xe xd xu ob su ne ki fi sd bo ta cu fo ma n 0) 3
    (fun n k hk h1 h0 => tj_xa3 hg hp hs hd hb eb hk h1 h0) (fun n a => br_t (nI_le (a := 3) (b := 3) (by omega) (by omega)) a) (fun h1 => ⟨4, ?_⟩) (fun h1 => hf (fun z => h1 z.1))
  exact tj_all (W := fun n k => wX_agrees_51 post (nI p) (nI s) xc xn xe xd xu ob su ne ki fi sd bo ta cu fo ma n (nI k)) (c := tj_a2 p s) (E := post 0) (A := post 1) 3
    (fun n k hk h1 h0 => tj_xa51 hp hs hk h1 h0) (fun n a => br_t (nI_le (a := 3) (b := 3) (by omega) (by omega)) a) (fun h2 => ht ⟨h1, h2⟩) (fun h2 => hf (fun z => h2 z.2))
/-! openEntries: any answer will do -/
theorem tj_xo5 {post : Int32 → Prop} {g : Nat → Nat} {p d : Nat} {b : Int32} (hg : tj_ok g) (hp : p < 1728) (hd : d < 6) (hb : ∀ v, v < 4 → bo (4 * d + v) = nI (g v)) (eb : b = nI (4 * d)) (h : ∀ r, post r) :
    ∀ m k (a : Int32), k + m = 3 → wX_openEntries_5 post (nI p) b xc xn xe xd xu ob su ne ki fi sd bo ta cu fo ma (m + 1) a (nI k) := by
  intro m
  induction m with
  | zero =>
    intro k a hk
    have e : k = 3 := by omega
    subst e
    exact br_t (nI_le (a := 3) (b := 3) (by omega) (by omega)) (h a)
  | succ m ih =>
    intro k a hk
    refine br_f (nI_ge (b := 3) (by omega) (by decide)) ?_
    refine tj_xe hp (by omega) ?_
    refine tj_xv (tj_ent_lt hp) hd hb eb ?_
    exact br_c (fun _ => nm_e (nm_r (nI_1 k) (ih (k + 1) _ (by omega)))) (fun _ => nm_e (nm_r (nI_1 k) (ih (k + 1) _ (by omega))))
theorem tj_xoe {post : Int32 → Prop} {g : Nat → Nat} {p d : Nat} {b : Int32} (hg : tj_ok g) (hp : p < 1728) (hd : d < 6) (hb : ∀ v, v < 4 → bo (4 * d + v) = nI (g v)) (eb : b = nI (4 * d)) (h : ∀ r, post r) : wpX_openEntries post (xc, xn, xe, xd, xu, ob, su, ne, ki, fi, sd, bo, ta, cu, fo, ma) (nI p) b :=
  Exists.intro 4 (tj_xo5 hg hp hd hb eb h 3 0 0 rfl)
end TJX
end
section
section TJX
variable {xc xn xe xd xu : Int32} {ob su ne ki fi sd bo ta cu fo ma : Nat → Int32}
/-! start -/
theorem tj_x48_0 {post : SX → Prop} {J : Int32 → Int32 → Prop} {d k : Nat} {x2 : Int32} (hd : d < 6) (h : J x2 (nI (k + 1))) :
    ∀ m j, j + m = d → wX_start_48 post J (nI d) x2 (nI k) xc xn xe xd xu ob su ne ki fi sd bo ta cu fo ma (m + 1) 0 (nI j) := by
  intro m
  induction m with
  | zero =>
    intro j hj
    exact br_t (nI_le (by omega) (by omega)) (br_t rfl (nm_r (nI_1 k) h))
  | succ m ih =>
    intro j hj
    exact br_f (nI_ge (by omega) (by omega)) (br_t rfl (nm_r (nI_1 j) (ih (j + 1) (by omega))))
theorem tj_nIm1 {a : Nat} (h : a < 2 ^ 31) : ¬ nI a = -1 := by
  intro e
  have := nI_pos (n := a) h
  rw [e] at this
  exact this (by decide)
theorem tj_x48_1 {post : SX → Prop} {J : Int32 → Int32 → Prop} {np : Nat → Nat} {g : Nat → Nat} {d k : Nat} {x2 : Int32} (hd : d < 6) (hk : k < 4) (hne : ∀ k, k < 4 → ne k = nI (np k) ∧ np k < 1728)
    (hg : tj_ok g) (hb : ∀ v, v < 4 → bo (4 * d + v) = nI (g v)) (hx : x2 = -1 ∨ ∃ b, b < 4 ∧ x2 = nI b)
    (hno : (¬ ∀ j, j < d → ¬ ta j = nI k) → J x2 (nI (k + 1))) (hy : (∀ j, j < d → ¬ ta j = nI k) → J (nI k) (nI (k + 1))) (hz : ¬ x2 = -1 → J x2 (nI (k + 1))) :
    ∀ m j, j + m = d → (∀ i, i < j → ¬ ta i = nI k) → wX_start_48 post J (nI d) x2 (nI k) xc xn xe xd xu ob su ne ki fi sd bo ta cu fo ma (m + 1) 1 (nI j) := by
  intro m
  induction m with
  | zero =>
    intro j hj fr
    have fr' : ∀ i, i < d → ¬ ta i = nI k := fun i hi => fr i (by omega)
    refine br_t (nI_le (by omega) (by omega)) (br_f (by decide) ?_)
    rcases hx with hx | ⟨b, hb4, hx⟩
    · exact br_t hx (nm_r (nI_1 k) (hy fr'))
    · have hx1 : ¬ x2 = -1 := by rw [hx]; exact tj_nIm1 (by omega)
      refine br_f hx1 ⟨vp_in_nI hk (by omega), ?_⟩
      rw [nI_clamp (n := k) (by omega), (hne k hk).1]
      refine tj_xoe hg (hne k hk).2 hd hb (pk_mul 4 d) (fun r => ⟨by rw [hx]; exact vp_in_nI hb4 (by omega), ?_⟩)
      rw [show ne x2.toNatClampNeg = nI (np b) from by rw [hx, nI_clamp (by omega), (hne b hb4).1]]
      exact tj_xoe hg (hne b hb4).2 hd hb (pk_mul 4 d) (fun r' => br_c (fun _ => nm_r (nI_1 k) (hz hx1)) (fun _ => nm_r (nI_1 k) (hy fr')))
  | succ m ih =>
    intro j hj fr
    refine br_f (nI_ge (by omega) (by omega)) (br_f (by decide) ⟨vp_in_nI (by omega) (by omega), ?_⟩)
    rw [nI_clamp (n := j) (by omega)]
    refine br_c (fun e => nm_r (nI_1 j) (tj_x48_0 hd (hno (fun z => z j (by omega) e)) m (j + 1) (by omega))) (fun e => nm_r (nI_1 j) (ih (j + 1) (by omega) (fun i hi => ?_)))
    by_cases q : i = j
    · rw [q]; exact e
    · exact fr i (by omega)
theorem tj_x34 {post : SX → Prop} {np : Nat → Nat} {g : Nat → Nat} {d nd : Nat} (hd : d < 6) (hnd : nd ≤ 4) (hne : ∀ k, k < 4 → ne k = nI (np k) ∧ np k < 1728)
    (hg : tj_ok g) (hb : ∀ v, v < 4 → bo (4 * d + v) = nI (g v)) (hex : ∃ i, i < nd ∧ ∀ j, j < d → ¬ ta j = nI i)
    (hp : ∀ b, b < nd → (∀ j, j < d → ¬ ta j = nI b) → post (xc, nI nd, xe, xd, xu, ob, su, ne, ki, fi, sd, bo, upd ta d (nI b), cu, fo, ma)) :
    ∀ m k x2, k + m = nd → ((x2 = -1 ∧ ∀ i, i < k → ¬ ∀ j, j < d → ¬ ta j = nI i) ∨ (∃ b, b < k ∧ (∀ j, j < d → ¬ ta j = nI b) ∧ x2 = nI b)) → wX_start_34 post (nI d) xc (nI nd) xe xd xu ob su ne ki fi sd bo ta cu fo ma (m + 1) x2 (nI k) := by
  intro m
  induction m with
  | zero =>
    intro k x2 hk hx
    refine br_t (nI_le (by omega) (by omega)) ⟨vp_in_nI hd (by omega), ?_⟩
    rcases hx with ⟨_, hn⟩ | ⟨b, hb4, fr, hx⟩
    · obtain ⟨i, hi, fr⟩ := hex
      exact absurd fr (hn i (by omega))
    · refine nm_r (e' := upd ta d (nI b)) (by rw [hx, nI_clamp (by omega)]) (hp b (by omega) fr)
  | succ m ih =>
    intro k x2 hk hx
    refine br_f (nI_ge (by omega) (by omega)) ⟨d + 1, ?_⟩
    have hx4 : x2 = -1 ∨ ∃ b, b < 4 ∧ x2 = nI b := by
      rcases hx with ⟨h, _⟩ | ⟨b, hb4, _, h⟩
      · exact Or.inl h
      · exact Or.inr ⟨b, by omega, h⟩
    refine tj_x48_1 (J := wX_start_34 post (nI d) xc (nI nd) xe xd xu ob su ne ki fi sd bo ta cu fo ma (m + 1)) hd (by omega) hne hg hb hx4 (fun hn => ih (k + 1) x2 (by omega) ?_) (fun fr => ih (k + 1) (nI k) (by omega) (Or.inr ⟨k, by omega, fr, rfl⟩)) (fun hx1 => ih (k + 1) x2 (by omega) ?_) d 0 (by omega) (fun i hi => absurd hi (by omega))
    · rcases hx with ⟨h, h2⟩ | ⟨b, hb4, fr, h⟩
      · refine Or.inl ⟨h, fun i hi => ?_⟩
        by_cases q : i = k
        · rw [q]; exact hn
        · exact h2 i (by omega)
      · exact Or.inr ⟨b, by omega, fr, h⟩
    · rcases hx with ⟨h, h2⟩ | ⟨b, hb4, fr, h⟩
      · exact absurd h hx1
      · exact Or.inr ⟨b, by omega, fr, h⟩
theorem tj_nb0 : vp_nar .boolean 0 = 0 := by decide
theorem tj_nb1 : vp_nar .boolean 1 = 1 := by decide
theorem tj_xst {post : SX → Prop} {np : Nat → Nat} {g : Nat → Nat} {d nd : Nat} (hd : d < 6) (hnd : nd ≤ 4) (hne : ∀ k, k < 4 → ne k = nI (np k) ∧ np k < 1728)
    (hg : tj_ok g) (hb : ∀ v, v < 4 → bo (4 * d + v) = nI (g v)) (hex : d < nd → ∃ i, i < nd ∧ ∀ j, j < d → ¬ ta j = nI i)
    (hp : ∀ x, (d < nd → ∃ b, b < nd ∧ (∀ j, j < d → ¬ ta j = nI b) ∧ x = nI b) → (nd ≤ d → x = -1) → post (xc, nI nd, xe, xd, xu, ob, su, ne, ki, fi, sd, bo, upd ta d x, upd cu d 0, upd fo d 0, ma)) :
    wpX_start post (xc, nI nd, xe, xd, xu, ob, su, ne, ki, fi, sd, bo, ta, cu, fo, ma) (nI d) := by
  have hi : vp_in (nI d) 6 := vp_in_nI hd (by omega)
  have cl : (nI d).toNatClampNeg = d := nI_clamp (by omega)
  refine And.intro hi (nm_r (e' := upd cu d 0) (by rw [cl]) (And.intro hi (nm_r (e' := upd fo d 0) (by rw [cl, tj_nb0]) ?_)))
  refine pk_lt d nd (fun h => ⟨nd + 1, ?_⟩) (fun h => ⟨hi, nm_r (e' := upd ta d (-1)) (by rw [cl]) (hp (-1) (fun z => by omega) (fun _ => rfl))⟩)
  exact tj_x34 hd hnd hne hg hb (hex h) (fun b h1 h2 => hp (nI b) (fun _ => ⟨b, h1, h2, rfl⟩) (fun z => by omega)) nd 0 (-1) (by omega) (Or.inl ⟨rfl, fun i hi => absurd hi (by omega)⟩)
/-! nextFor -/
theorem tj_x109 {post : Int32 → SX → Prop} {J : (Nat → Int32) → (Nat → Int32) → (Nat → Int32) → (Nat → Int32) → (Nat → Int32) → (Nat → Int32) → (Nat → Int32) → (Nat → Int32) → (Nat → Int32) → (Nat → Int32) → (Nat → Int32) → Prop}
    {H : Nat → Prop} {g : Nat → Nat} {p d c : Nat} {x3 x6 : Int32} (hc : c < 256) (hd : d < 6) (hg : tj_ok g) (hp : p < 1728) (hb : ∀ v, v < 4 → bo (4 * d + v) = nI (g v)) (hcu : cu d = nI c)
    (hx : ∀ i, i < 8 → bt x6 i = true → H (8 * (c / 8) + i)) (hx' : ∀ i, i < 8 → H (8 * (c / 8) + i) → tj_ag g p (8 * (c / 8) + i) → bt x6 i = true)
    (hskip : (∀ s, c ≤ s → s < 8 * (c / 8) + 8 → H s → ¬ tj_ag g p s) → J ob su ne ki fi sd bo ta (upd cu d (nI (8 * (c / 8) + 8))) fo ma)
    (hnext : (H c → ¬ tj_ag g p c) → J ob su ne ki fi sd bo ta (upd cu d (nI (c + 1))) fo ma)
    (hhit : H c → tj_ag g p c → post (nI c) (xc, xn, xe, xd, xu, ob, su, ne, ki, fi, sd, bo, ta, upd cu d (nI (c + 1)), fo, ma)) :
    wX_nextFor_109 post J (nI d) (nI p) x3 (nI c) (nI (c / 8)) x6 xc xn xe xd xu ob su ne ki fi sd bo ta cu fo ma := by
  have e7 : nI c &&& 7 = nI (c % 8) := pk_andN (by omega) 3 (by decide)
  have hi : vp_in (nI d) 6 := vp_in_nI hd (by omega)
  have cl : (nI d).toNatClampNeg = d := nI_clamp (by omega)
  have e8 : 8 * nI (c / 8) + 8 = nI (8 * (c / 8) + 8) := by
    rw [show (8 : Int32) * nI (c / 8) = nI (8 * (c / 8)) from pk_mul 8 _]
    exact nI_add _ 8
  unfold wX_nextFor_109
  rw [e7]
  refine br_c (fun hz => ⟨hi, nm_r (e' := upd cu d (nI (8 * (c / 8) + 8))) (by rw [cl, e8]) (hskip ?_)⟩) (fun hz => ⟨hi, hi, nm_r (e' := upd cu d (nI (c + 1))) (by rw [cl, hcu, nI_1]) ?_⟩)
  · intro s h1 h2 hH ag
    have q := tj_sh_z (j := s - 8 * (c / 8)) (by omega) hz (by omega) (by omega)
    refine q (hx' _ (by omega) ?_ ?_)
    · rw [show 8 * (c / 8) + (s - 8 * (c / 8)) = s from by omega]; exact hH
    · rw [show 8 * (c / 8) + (s - 8 * (c / 8)) = s from by omega]; exact ag
  · have ec : 8 * (c / 8) + c % 8 = c := by omega
    have h1 := hx (c % 8) (by omega)
    have h2 := hx' (c % 8) (by omega)
    rw [ec] at h1 h2
    refine ek_if (d := bt x6 (c % 8) = true) ((tj_and1_1 _).trans (by rw [tj_sh0 _ (by omega)])) (fun hbit => ?_) (fun hbit => hnext (fun hH ag => hbit (h2 hH ag)))
    exact tj_xag hg hp hc hd hb (pk_mul 4 d) (fun ag => br_f (by decide) (hhit (h1 hbit) ag)) (fun ag => br_t rfl (hnext (fun _ => ag)))
theorem tj_x42 {post : Int32 → SX → Prop} {H : Nat → Prop} {g : Nat → Nat} {p d : Nat} (hd : d < 6) (hg : tj_ok g) (hp : p < 1728) (hb : ∀ v, v < 4 → bo (4 * d + v) = nI (g v))
    (hob : ∀ r o, r < 32 → o < 8 → (bt (ob r) o = true ↔ H (8 * r + o))) (hsu : ∀ r o, r < 32 → o < 8 → (bt (su (4 * o + r % 4)) (r / 4) = true ↔ H (8 * r + o))) :
    ∀ m c (cu : Nat → Int32), c ≤ 256 → 256 ≤ c + m → cu d = nI c →
    (∀ s cu', c ≤ s → s < 256 → H s → tj_ag g p s → (∀ s', c ≤ s' → s' < s → H s' → ¬ tj_ag g p s') → cu' d = nI (s + 1) → (∀ j, j ≠ d → cu' j = cu j) → post (nI s) (xc, xn, xe, xd, xu, ob, su, ne, ki, fi, sd, bo, ta, cu', fo, ma)) →
    ((∀ s', c ≤ s' → s' < 256 → H s' → ¬ tj_ag g p s') → ∀ cu', (∀ j, j ≠ d → cu' j = cu j) → post (-1) (xc, xn, xe, xd, xu, ob, su, ne, ki, fi, sd, bo, ta, cu', fo, ma)) →
    wX_nextFor_42 post (nI d) (nI p) (nI (tj_val g (tj_ent p 2))) xc xn xe xd xu (m + 1) ob su ne ki fi sd bo ta cu fo ma := by
  have hi : vp_in (nI d) 6 := vp_in_nI hd (by omega)
  have cl : (nI d).toNatClampNeg = d := nI_clamp (by omega)
  have hv := tj_val_le hg (tj_ent_lt (k := 2) hp)
  intro m
  induction m with
  | zero =>
    intro c cu h1 h2 hcu hf hn
    refine And.intro hi (br_t ?_ (hn (fun s' h3 h4 => by omega) cu (fun _ _ => rfl)))
    rw [cl, hcu]
    exact nI_le (a := 256) (by omega) (by omega)
  | succ m ih =>
    intro c cu h1 h2 hcu hf hn
    by_cases hc : c < 256
    · have step : ∀ c2 (cu2 : Nat → Int32), c < c2 → c2 ≤ 256 → (∀ s, c ≤ s → s < c2 → H s → ¬ tj_ag g p s) → cu2 d = nI c2 → (∀ j, j ≠ d → cu2 j = cu j) →
          wX_nextFor_42 post (nI d) (nI p) (nI (tj_val g (tj_ent p 2))) xc xn xe xd xu (m + 1) ob su ne ki fi sd bo ta cu2 fo ma := by
        intro c2 cu2 q1 q2 q3 q4 q5
        refine ih c2 cu2 q2 (by omega) q4 (fun s cu' a1 a2 a3 a4 a5 a6 a7 => ?_) (fun a1 cu' a2 => ?_)
        · refine hf s cu' (by omega) a2 a3 a4 (fun s' b1 b2 => ?_) a6 (fun j hj => (a7 j hj).trans (q5 j hj))
          by_cases z : s' < c2
          · exact q3 s' b1 z
          · exact a5 s' (by omega) b2
        · refine hn (fun s' b1 b2 => ?_) cu' (fun j hj => (a2 j hj).trans (q5 j hj))
          by_cases z : s' < c2
          · exact q3 s' b1 z
          · exact a1 s' (by omega) b2
      have fin : ∀ x6 : Int32, (∀ i, i < 8 → bt x6 i = true → H (8 * (c / 8) + i)) → (∀ i, i < 8 → H (8 * (c / 8) + i) → tj_ag g p (8 * (c / 8) + i) → bt x6 i = true) →
          wX_nextFor_109 post (wX_nextFor_42 post (nI d) (nI p) (nI (tj_val g (tj_ent p 2))) xc xn xe xd xu (m + 1)) (nI d) (nI p) (nI (tj_val g (tj_ent p 2))) (nI c) (nI (c / 8)) x6 xc xn xe xd xu ob su ne ki fi sd bo ta cu fo ma := by
        intro x6 hx hx'
        refine tj_x109 hc hd hg hp hb hcu hx hx' (fun q => step _ _ (by omega) (by omega) q pk_us (fun j hj => pk_un hj)) (fun q => step _ _ (by omega) (by omega) (fun s a1 a2 => ?_) pk_us (fun j hj => pk_un hj)) (fun a1 a2 => ?_)
        · have e : s = c := by omega
          rw [e]; exact q
        · exact hf c _ (by omega) hc a1 a2 (fun s' b1 b2 => by omega) pk_us (fun j hj => pk_un hj)
      refine And.intro hi (br_f ?_ ⟨hi, nm_r (e' := nI c) (by rw [cl, hcu]) (nm_r (e' := nI (c / 8)) (pk_shrN (by omega) _ 3 (by decide)) ⟨vp_in_nI (by omega) (by omega), nm_r (e' := ob (c / 8)) (by rw [nI_clamp (by omega)]) ?_⟩)⟩)
      · rw [cl, hcu]
        exact nI_ge (b := 256) hc (by omega)
      · refine pk_eq (tj_val g (tj_ent p 2)) 8 (fun h8 => fin _ (fun i h => (hob (c / 8) i (by omega) h).mp) (fun i h hH _ => (hob (c / 8) i (by omega) h).mpr hH)) (fun h8 => ?_)
        have hv8 : tj_val g (tj_ent p 2) < 8 := by omega
        have e1 : 4 * nI (tj_val g (tj_ent p 2)) + (nI (c / 8) &&& 3) = nI (4 * tj_val g (tj_ent p 2) + c / 8 % 4) := by
          rw [show (4 : Int32) * nI (tj_val g (tj_ent p 2)) = nI (4 * tj_val g (tj_ent p 2)) from pk_mul 4 _, show nI (c / 8) &&& 3 = nI (c / 8 % 4) from pk_andN (by omega) 2 (by decide), nI_add]
        have e2 : nI (c / 8) >>> ((2 : Int32) &&& 31) = nI (c / 8 / 4) := pk_shrN (by omega) _ 2 (by decide)
        have hq := hsu (c / 8) (tj_val g (tj_ent p 2)) (by omega) hv8
        rw [e1, e2, nI_clamp (n := 4 * tj_val g (tj_ent p 2) + c / 8 % 4) (by omega)]
        refine ⟨vp_in_nI (by omega) (by omega), ek_if (d := ¬ H (8 * (c / 8) + tj_val g (tj_ent p 2))) ((tj_and1_0 _).trans (by rw [tj_sh0 _ (by omega), hq])) (fun hH => ?_) (fun hH => fin _ (fun i h => (hob (c / 8) i (by omega) h).mp) (fun i h hH _ => (hob (c / 8) i (by omega) h).mpr hH))⟩
        refine fin 0 (fun i _ h => absurd h (by rw [b_0]; decide)) (fun i h8' h ag => ?_)
        have a := ag.1 2 (by omega)
        unfold tj_a1 at a
        have e3 : tj_par (8 * (c / 8) + i) 2 = i := by
          show (8 * (c / 8) + i) % 8 = i
          omega
        rw [e3] at a
        have e4 : tj_val g (tj_ent p 2) = i := by omega
        rw [e4] at hH
        exact absurd h hH
    · have e : c = 256 := by omega
      refine And.intro hi (br_t ?_ (hn (fun s' h3 h4 => by omega) cu (fun _ _ => rfl)))
      rw [cl, hcu]
      exact nI_le (a := 256) (by omega) (by omega)
/-- the pattern of a depth: the one that it took, or the extra one -/
def tj_pat (ta : Nat → Int32) (np : Nat → Nat) (xe : Int32) (d p : Nat) : Prop := (ta d = -1 ∧ xe = nI p) ∨ (∃ k, k < 4 ∧ ta d = nI k ∧ np k = p)
theorem tj_xnf {post : Int32 → SX → Prop} {H : Nat → Prop} {np : Nat → Nat} {g : Nat → Nat} {p d c : Nat} (hd : d < 6) (hg : tj_ok g) (hp : p < 1728) (hb : ∀ v, v < 4 → bo (4 * d + v) = nI (g v))
    (hob : ∀ r o, r < 32 → o < 8 → (bt (ob r) o = true ↔ H (8 * r + o))) (hsu : ∀ r o, r < 32 → o < 8 → (bt (su (4 * o + r % 4)) (r / 4) = true ↔ H (8 * r + o)))
    (hne : ∀ k, k < 4 → ne k = nI (np k) ∧ np k < 1728) (hpa : tj_pat ta np xe d p) (hc : c ≤ 256) (hcu : cu d = nI c)
    (hf : ∀ s cu', c ≤ s → s < 256 → H s → tj_ag g p s → (∀ s', c ≤ s' → s' < s → H s' → ¬ tj_ag g p s') → cu' d = nI (s + 1) → (∀ j, j ≠ d → cu' j = cu j) → post (nI s) (xc, xn, xe, xd, xu, ob, su, ne, ki, fi, sd, bo, ta, cu', fo, ma))
    (hn : (∀ s', c ≤ s' → s' < 256 → H s' → ¬ tj_ag g p s') → ∀ cu', (∀ j, j ≠ d → cu' j = cu j) → post (-1) (xc, xn, xe, xd, xu, ob, su, ne, ki, fi, sd, bo, ta, cu', fo, ma)) :
    wpX_nextFor post (xc, xn, xe, xd, xu, ob, su, ne, ki, fi, sd, bo, ta, cu, fo, ma) (nI d) := by
  have hi : vp_in (nI d) 6 := vp_in_nI hd (by omega)
  have cl : (nI d).toNatClampNeg = d := nI_clamp (by omega)
  have key : wX_nextFor_28 post (nI d) (nI p) xc xn xe xd xu ob su ne ki fi sd bo ta cu fo ma := by
    unfold wX_nextFor_28
    refine tj_xe (k := 2) hp (by omega) ?_
    refine tj_xv (tj_ent_lt hp) hd hb (pk_mul 4 d) ?_
    exact ⟨257, tj_x42 hd hg hp hb hob hsu 256 c cu hc (by omega) hcu hf hn⟩
  refine And.intro hi ?_
  rw [cl]
  rcases hpa with ⟨h1, h2⟩ | ⟨k, hk, h1, h2⟩
  · rw [h1]
    rw [← h2] at key
    exact br_t rfl key
  · have e : ne (ta d).toNatClampNeg = nI p := by rw [h1, nI_clamp (by omega), (hne k hk).1, h2]
    rw [e, h1]
    exact br_f (tj_nIm1 (by omega)) ⟨hi, vp_in_nI hk (by omega), key⟩
end TJX
end
section
section TJX
variable {xc xn xe xd xu : Int32} {ob su ne ki fi sd bo ta cu fo ma : Nat → Int32}
/-! bind -/
theorem tj_x71s {post : SX → Prop} {g : Nat → Nat} {p s d n k : Nat} {b0 : Nat → Int32} (hp : p < 1728) (hs : s < 256) (hd : d < 5) (hk : k < 3) (hb : ∀ v, v < 4 → bo (4 * d + 4 + v) = nI (g v)) (hl : ∀ j, j < 4 * d + 4 → bo j = b0 j)
    (hn : ∀ bo', (∀ v, v < 4 → bo' (4 * d + 4 + v) = nI (tj_pt g p s k v)) → (∀ j, j < 4 * d + 4 → bo' j = b0 j) → wX_bind_71 post (nI d) (nI s) (nI p) xc xn xe xd xu n (nI (k + 1)) ob su ne ki fi sd bo' ta cu fo ma) :
    wX_bind_71 post (nI d) (nI s) (nI p) xc xn xe xd xu (n + 1) (nI k) ob su ne ki fi sd bo ta cu fo ma := by
  have e12 := tj_ent_lt (k := k) hp
  refine br_f (nI_ge (b := 3) hk (by decide)) (tj_xe hp hk ?_)
  refine pk_lt (tj_ent p k) 8 (fun h => nm_r (nI_1 k) (hn bo (fun v hv => ?_) hl)) (fun h8 => tj_xp hs hk ?_)
  · unfold tj_pt
    rw [hb v hv, if_neg (by omega)]
  · have e : 4 * nI d + 4 + nI (tj_ent p k) - 8 = nI (4 * d + 4 + (tj_ent p k - 8)) := by
      rw [show (4 : Int32) * nI d = nI (4 * d) from pk_mul 4 d, show nI (4 * d) + 4 = nI (4 * d + 4) from nI_add _ 4, nI_add, show 4 * d + 4 + (tj_ent p k - 8) = 4 * d + 4 + tj_ent p k - 8 from by omega]
      exact pk_sub (b := 8) (by omega)
    rw [e]
    refine ⟨vp_in_nI (by omega) (by omega), nm_r (e' := upd bo (4 * d + 4 + (tj_ent p k - 8)) (nI (tj_par s k))) (by rw [nI_clamp (by omega)]) (nm_r (nI_1 k) (hn _ (fun v hv => ?_) (fun j hj => ?_)))⟩
    · unfold tj_pt
      by_cases z : tj_ent p k = 8 + v
      · rw [if_pos z, show 4 * d + 4 + (tj_ent p k - 8) = 4 * d + 4 + v from by omega, pk_us]
      · rw [if_neg z, pk_un (by omega), hb v hv]
    · rw [pk_un (by omega), hl j hj]
theorem tj_x71 {post : SX → Prop} {g : Nat → Nat} {p s d : Nat} {b0 : Nat → Int32} (hp : p < 1728) (hs : s < 256) (hd : d < 5) (hb : ∀ v, v < 4 → bo (4 * d + 4 + v) = nI (g v)) (hl : ∀ j, j < 4 * d + 4 → bo j = b0 j)
    (hn : ∀ bo', (∀ v, v < 4 → bo' (4 * d + 4 + v) = nI (tj_bn g p s v)) → (∀ j, j < 4 * d + 4 → bo' j = b0 j) → post (xc, xn, xe, xd, xu, ob, su, ne, ki, fi, sd, bo', ta, cu, fo, ma)) :
    wX_bind_71 post (nI d) (nI s) (nI p) xc xn xe xd xu 4 0 ob su ne ki fi sd bo ta cu fo ma := by
  refine tj_x71s (k := 0) hp hs hd (by omega) hb hl (fun b1 h1 l1 => ?_)
  refine tj_x71s (k := 1) hp hs hd (by omega) h1 l1 (fun b2 h2 l2 => ?_)
  refine tj_x71s (k := 2) hp hs hd (by omega) h2 l2 (fun b3 h3 l3 => ?_)
  exact br_t (nI_le (a := 3) (b := 3) (by omega) (by omega)) (hn b3 h3 l3)
theorem tj_x32 {post : SX → Prop} {g : Nat → Nat} {p s d : Nat} {b0 : Nat → Int32} (hp : p < 1728) (hs : s < 256) (hd : d < 5) (h0 : ∀ v, v < 4 → b0 (4 * d + v) = nI (g v))
    (hn : ∀ bo', (∀ v, v < 4 → bo' (4 * d + 4 + v) = nI (tj_bn g p s v)) → (∀ j, j < 4 * d + 4 → bo' j = b0 j) → post (xc, xn, xe, xd, xu, ob, su, ne, ki, fi, sd, bo', ta, cu, fo, ma)) :
    ∀ m v (bo : Nat → Int32), v + m = 4 → (∀ i, i < v → bo (4 * d + 4 + i) = nI (g i)) → (∀ j, j < 4 * d + 4 → bo j = b0 j) → wX_bind_32 post (nI d) (nI s) (nI p) xc xn xe xd xu (m + 1) (nI v) ob su ne ki fi sd bo ta cu fo ma := by
  intro m
  induction m with
  | zero =>
    intro v bo hv hb hl
    refine br_t (nI_le (a := 4) (by omega) (by omega)) ⟨4, ?_⟩
    exact tj_x71 hp hs hd (fun i hi => hb i (by omega)) hl hn
  | succ m ih =>
    intro v bo hv hb hl
    have e4 : (4 : Int32) * nI d = nI (4 * d) := pk_mul 4 d
    have e5 : nI (4 * d) + nI v = nI (4 * d + v) := nI_add _ _
    have e6 : nI (4 * d) + 4 + nI v = nI (4 * d + 4 + v) := by
      rw [show nI (4 * d) + 4 = nI (4 * d + 4) from nI_add _ 4, nI_add]
    refine br_f (nI_ge (b := 4) (by omega) (by decide)) ?_
    rw [e4, e5, e6]
    refine ⟨vp_in_nI (by omega) (by omega), vp_in_nI (by omega) (by omega), nm_r (e' := upd bo (4 * d + 4 + v) (nI (g v))) ?_ (nm_r (nI_1 v) (ih (v + 1) _ (by omega) (fun i hi => ?_) (fun j hj => ?_)))⟩
    · rw [nI_clamp (n := 4 * d + 4 + v) (by omega), nI_clamp (n := 4 * d + v) (by omega), hl _ (by omega), h0 v (by omega)]
    · by_cases z : i = v
      · rw [z, pk_us]
      · rw [pk_un (by omega), hb i (by omega)]
    · rw [pk_un (by omega), hl j hj]
theorem tj_xbi {post : SX → Prop} {np : Nat → Nat} {g : Nat → Nat} {p s d : Nat} (hp : p < 1728) (hs : s < 256) (hd : d < 5) (h0 : ∀ v, v < 4 → bo (4 * d + v) = nI (g v))
    (hne : ∀ k, k < 4 → ne k = nI (np k) ∧ np k < 1728) (hpa : tj_pat ta np xe d p)
    (hn : ∀ bo', (∀ v, v < 4 → bo' (4 * (d + 1) + v) = nI (tj_bn g p s v)) → (∀ j, j < 4 * (d + 1) → bo' j = bo j) → post (xc, xn, xe, xd, xu, ob, su, ne, ki, fi, sd, bo', ta, cu, fo, ma)) :
    wpX_bind post (xc, xn, xe, xd, xu, ob, su, ne, ki, fi, sd, bo, ta, cu, fo, ma) (nI d) (nI s) := by
  have hi : vp_in (nI d) 6 := vp_in_nI (by omega) (by omega)
  have cl : (nI d).toNatClampNeg = d := nI_clamp (by omega)
  have key : ∃ n, wX_bind_32 post (nI d) (nI s) (nI p) xc xn xe xd xu n 0 ob su ne ki fi sd bo ta cu fo ma :=
    ⟨5, tj_x32 hp hs hd h0 hn 4 0 bo (by omega) (fun i hi => absurd hi (by omega)) (fun _ _ => rfl)⟩
  refine And.intro hi ?_
  rw [cl]
  rcases hpa with ⟨h1, h2⟩ | ⟨k, hk, h1, h2⟩
  · rw [h1]
    rw [← h2] at key
    exact br_t rfl key
  · have e : ne (ta d).toNatClampNeg = nI p := by rw [h1, nI_clamp (by omega), (hne k hk).1, h2]
    rw [e, h1]
    exact br_f (tj_nIm1 (by omega)) ⟨hi, vp_in_nI hk (by omega), nm_e key⟩
/-! offer -/
theorem tj_x138s {post : SX → Prop} {g : Nat → Nat} {d n v a : Nat} (hd : d < 6) (hv : v < 4) (hb : ∀ v, v < 4 → bo (4 * d + v) = nI (g v))
    (h : wX_offer_138 post (nI (4 * d)) xc xn xe xd xu ob su ne ki fi sd bo ta cu fo ma n (nI (9 * a + g v)) (nI (v + 1))) : wX_offer_138 post (nI (4 * d)) xc xn xe xd xu ob su ne ki fi sd bo ta cu fo ma (n + 1) (nI a) (nI v) := by
  have e5 : nI (4 * d) + nI v = nI (4 * d + v) := nI_add _ _
  have e6 : 9 * nI a + nI (g v) = nI (9 * a + g v) := by
    rw [show (9 : Int32) * nI a = nI (9 * a) from pk_mul 9 a, nI_add]
  refine br_f (nI_ge (b := 4) hv (by decide)) ?_
  rw [e5, nI_clamp (n := 4 * d + v) (by omega), hb v hv, e6]
  exact ⟨vp_in_nI (by omega) (by omega), nm_e (nm_r (nI_1 v) h)⟩
theorem tj_mk_u {ma : Nat → Int32} {q c : Nat} : tj_mk (upd ma (q / 32) (ma (q / 32) ||| ((1 : Int32) <<< (nI (q % 32) &&& 31)))) c ↔ tj_mk ma c ∨ c = q := by
  unfold tj_mk
  by_cases z : c / 32 = q / 32
  · rw [z, pk_us, tj_set (by omega) (by omega)]
    refine or_congr Iff.rfl ?_
    omega
  · rw [pk_un z]
    exact ⟨Or.inl, fun h => h.elim id (fun e => absurd (by rw [e]) z)⟩
theorem tj_x138 {post : SX → Prop} {g : Nat → Nat} {d : Nat} (hd : d < 6) (hg : tj_ok g) (hb : ∀ v, v < 4 → bo (4 * d + v) = nI (g v))
    (h : ∀ ma', (∀ c, tj_mk ma' c ↔ tj_mk ma c ∨ c = tj_cod g) → post (xc, xn, xe, xd, xu, ob, su, ne, ki, fi, sd, bo, ta, cu, fo, ma')) : wX_offer_138 post (nI (4 * d)) xc xn xe xd xu ob su ne ki fi sd bo ta cu fo ma 5 0 0 := by
  refine tj_x138s (v := 0) (a := 0) hd (by omega) hb ?_
  refine tj_x138s (v := 1) hd (by omega) hb ?_
  refine tj_x138s (v := 2) hd (by omega) hb ?_
  refine tj_x138s (v := 3) hd (by omega) hb ?_
  have lt := tj_cod_lt hg
  have ec : 9 * (9 * (9 * (9 * 0 + g 0) + g 1) + g 2) + g 3 = tj_cod g := by unfold tj_cod; omega
  rw [ec]
  have e : nI (tj_cod g) >>> ((5 : Int32) &&& 31) = nI (tj_cod g / 32) := pk_shrN (by omega) _ 5 (by decide)
  have e2 : nI (tj_cod g) &&& 31 = nI (tj_cod g % 32) := pk_andN (by omega) 5 (by decide)
  refine br_t (nI_le (a := 4) (b := 4) (by omega) (by omega)) ?_
  rw [e, e2, nI_clamp (n := tj_cod g / 32) (by omega)]
  exact ⟨vp_in_nI (by omega) (by omega), vp_in_nI (by omega) (by omega), nm_e (h _ (fun c => tj_mk_u))⟩
theorem tj_x105 {post : SX → Prop} {J : Int32 → Prop} {x2 z0 : Int32} {i a b : Nat} {z : Prop} (ha : a ≤ 8) (hb : b ≤ 8) (z1 : z → z0 = 1) (zn : ¬ z → z0 = 0)
    (ht : a ≠ 8 → b ≠ 8 → z → J (nI (i + 1))) (hf : ¬ (a ≠ 8 ∧ b ≠ 8 ∧ z) → post (xc, xn, xe, xd, xu, ob, su, ne, ki, fi, sd, bo, ta, cu, fo, ma)) : wX_offer_105 post J x2 (nI i) (nI a) (nI b) z0 xc xn xe xd xu ob su ne ki fi sd bo ta cu fo ma := by
  unfold wX_offer_105
  refine pk_eq a 8 (fun h => hf (fun q => q.1 h)) (fun h => pk_eq b 8 (fun h' => hf (fun q => q.2.1 h')) (fun h' => ?_))
  by_cases hz : z
  · rw [z1 hz]
    exact br_f (by decide) (nm_r (nI_1 i) (ht h h' hz))
  · rw [zn hz]
    exact br_t rfl (hf (fun q => hz q.2.2))
theorem tj_x76 {post : SX → Prop} {J : Int32 → Prop} {x2 z0 : Int32} {i a b k : Nat} {z : Prop} (hi : i < 3) (hk : k ≤ 2) (ek : ki i = nI k) (ha : a ≤ 8) (hb : b ≤ 8) (z1 : z → z0 = 1) (zn : ¬ z → z0 = 0) (hz : k ≠ 2 → (z ↔ tj_k1 k a b))
    (ht : a ≠ 8 → b ≠ 8 → tj_k1 k a b → J (nI (i + 1))) (hf : ¬ (a ≠ 8 ∧ b ≠ 8 ∧ tj_k1 k a b) → post (xc, xn, xe, xd, xu, ob, su, ne, ki, fi, sd, bo, ta, cu, fo, ma)) : wX_offer_76 post J x2 (nI i) (nI a) (nI b) z0 xc xn xe xd xu ob su ne ki fi sd bo ta cu fo ma := by
  unfold wX_offer_76
  rw [nI_clamp (n := i) (by omega), ek]
  refine ⟨vp_in_nI hi (by omega), pk_eq k 2 (fun h => ?_) (fun h => ?_)⟩
  · have q : a < b ↔ tj_k1 k a b := by
      unfold tj_k1
      constructor
      · intro h1
        exact ⟨fun z => by omega, fun z => by omega, fun _ => h1⟩
      · intro h1
        exact h1.2.2 h
    refine pk_le b a (fun h1 => ?_) (fun h1 => ?_)
    · exact tj_x105 (z := tj_k1 k a b) ha hb (fun z => absurd (q.mpr z) (by omega)) (fun _ => rfl) ht hf
    · exact tj_x105 (z := tj_k1 k a b) ha hb (fun _ => rfl) (fun z => absurd (q.mp h1) z) ht hf
  · exact tj_x105 (z := tj_k1 k a b) ha hb (fun y => z1 ((hz h).mpr y)) (fun y => zn (fun w => y ((hz h).mp w))) ht hf
theorem tj_x6s {post : SX → Prop} {g : Nat → Nat} {ck cf cs : Nat → Nat} {d n i nc : Nat} {b : Int32} (hd : d < 6) (hg : tj_ok g) (hb : ∀ v, v < 4 → bo (4 * d + v) = nI (g v)) (eb : b = nI (4 * d)) (hnc : nc ≤ 3)
    (hki : ∀ i, i < 3 → ki i = nI (ck i) ∧ ck i ≤ 2 ∧ fi i = nI (cf i) ∧ cf i < 12 ∧ sd i = nI (cs i) ∧ cs i < 12) (hi : i < nc)
    (ht : (tj_val g (cf i) ≠ 8 ∧ tj_val g (cs i) ≠ 8 ∧ tj_k1 (ck i) (tj_val g (cf i)) (tj_val g (cs i))) → wX_offer_6 post b xc xn xe (nI nc) xu ob su ne ki fi sd bo ta cu fo ma n (nI (i + 1)))
    (hf : ¬ (tj_val g (cf i) ≠ 8 ∧ tj_val g (cs i) ≠ 8 ∧ tj_k1 (ck i) (tj_val g (cf i)) (tj_val g (cs i))) → post (xc, xn, xe, nI nc, xu, ob, su, ne, ki, fi, sd, bo, ta, cu, fo, ma)) :
    wX_offer_6 post b xc xn xe (nI nc) xu ob su ne ki fi sd bo ta cu fo ma (n + 1) (nI i) := by
  obtain ⟨k1, k2, k3, k4, k5, k6⟩ := hki i (by omega)
  have va := tj_val_le hg k4
  have vb := tj_val_le hg k6
  have h3 : vp_in (nI i) 3 := vp_in_nI (by omega) (by omega)
  refine br_f (nI_ge hi (by omega)) ?_
  rw [nI_clamp (n := i) (by omega), k3, k5, k1]
  refine ⟨h3, tj_xv k4 hd hb eb ⟨h3, tj_xv k6 hd hb eb ⟨h3, ?_⟩⟩⟩
  refine pk_eq (ck i) 0 (fun h0 => pk_eq (tj_val g (cf i)) (tj_val g (cs i)) (fun e => ?_) (fun e => ?_)) (fun h0 => pk_eq (tj_val g (cf i)) (tj_val g (cs i)) (fun e => ?_) (fun e => ?_))
  · exact tj_x76 (z := True) (by omega) k2 k1 va vb (fun _ => rfl) (fun z => absurd trivial z) (fun _ => ⟨fun _ => ⟨fun _ => e, fun z => by omega, fun z => by omega⟩, fun _ => trivial⟩) (fun a b c => ht ⟨a, b, c⟩) hf
  · exact tj_x76 (z := False) (by omega) k2 k1 va vb (fun z => z.elim) (fun _ => rfl) (fun _ => ⟨fun z => z.elim, fun z => e (z.1 h0)⟩) (fun a b c => ht ⟨a, b, c⟩) hf
  · exact tj_x76 (z := False) (by omega) k2 k1 va vb (fun z => z.elim) (fun _ => rfl) (fun h2 => ⟨fun z => z.elim, fun z => z.2.1 (by omega) e⟩) (fun a b c => ht ⟨a, b, c⟩) hf
  · exact tj_x76 (z := True) (by omega) k2 k1 va vb (fun _ => rfl) (fun z => absurd trivial z) (fun h2 => ⟨fun _ => ⟨fun z => absurd z h0, fun _ => e, fun z => absurd z h2⟩, fun _ => trivial⟩) (fun a b c => ht ⟨a, b, c⟩) hf
theorem tj_xof {post : SX → Prop} {g : Nat → Nat} {ck cf cs : Nat → Nat} {d nc : Nat} (hd : d < 6) (hg : tj_ok g) (hb : ∀ v, v < 4 → bo (4 * d + v) = nI (g v)) (hnc : nc ≤ 3)
    (hki : ∀ i, i < 3 → ki i = nI (ck i) ∧ ck i ≤ 2 ∧ fi i = nI (cf i) ∧ cf i < 12 ∧ sd i = nI (cs i) ∧ cs i < 12)
    (h : ∀ ma', (∀ c, tj_mk ma' c ↔ tj_mk ma c ∨ (c = tj_cod g ∧ tj_ke nc ck cf cs g)) → post (xc, xn, xe, nI nc, xu, ob, su, ne, ki, fi, sd, bo, ta, cu, fo, ma')) : wpX_offer post (xc, xn, xe, nI nc, xu, ob, su, ne, ki, fi, sd, bo, ta, cu, fo, ma) (nI d) := by
  refine nm_r (pk_mul 4 d) ⟨nc + 1, ?_⟩
  refine tj_all (W := fun n k => wX_offer_6 post (nI (4 * d)) xc xn xe (nI nc) xu ob su ne ki fi sd bo ta cu fo ma n (nI k)) (c := fun i => tj_val g (cf i) ≠ 8 ∧ tj_val g (cs i) ≠ 8 ∧ tj_k1 (ck i) (tj_val g (cf i)) (tj_val g (cs i)))
    (E := post (xc, xn, xe, nI nc, xu, ob, su, ne, ki, fi, sd, bo, ta, cu, fo, ma)) (A := ∃ n, wX_offer_138 post (nI (4 * d)) xc xn xe (nI nc) xu ob su ne ki fi sd bo ta cu fo ma n 0 0) nc
    (fun n k hk h1 h0 => tj_x6s hd hg hb rfl hnc hki hk h1 h0) (fun n a => br_t (nI_le (by omega) (by omega)) a) (fun h1 => ⟨5, tj_x138 hd hg hb (fun ma' hm => h ma' (fun c => ?_))⟩) (fun h1 => h ma (fun c => ?_))
  · rw [hm c]
    exact or_congr Iff.rfl ⟨fun e => ⟨e, h1⟩, fun e => e.1⟩
  · exact ⟨Or.inl, fun e => e.elim id (fun q => absurd q.2 h1)⟩
end TJX
end
section
/-! the search -/
def tj_xI : Option Nat → Int32
  | none => -1
  | some p => nI p
def tj_Fr (d : Nat) (bo ta cu fo bo' ta' cu' fo' : Nat → Int32) : Prop := (∀ j, j < 4 * d → bo' j = bo j) ∧ (∀ j, j < d → ta' j = ta j) ∧ (∀ j, j < d → cu' j = cu j) ∧ (∀ j, j < d → fo' j = fo j)
/-- a depth as start leaves it -/
def tj_Be (nd d : Nat) (ta cu fo : Nat → Int32) : Prop := (d < nd → ∃ b, b < nd ∧ (∀ j, j < d → ¬ ta j = nI b) ∧ ta d = nI b) ∧ (nd ≤ d → ta d = -1) ∧ cu d = nI 0 ∧ fo d = 0
theorem tj_arith {L W w1 w2 st ST : Nat} (hw : W + w2 ≤ w1) (h1 : 1 ≤ W) (hS : st + 1 + 2 * (L + 1) * w1 ≤ ST) : st + 1 + 1 + 2 * L * W ≤ ST ∧ ∀ st2, st2 ≤ st + 1 + 1 + 2 * L * W → st2 + 1 + 2 * (L + 1) * w2 ≤ ST := by
  have a := Nat.mul_le_mul_left (2 * (L + 1)) hw
  have e : 2 * (L + 1) * (W + w2) = 2 * L * W + 2 * W + 2 * (L + 1) * w2 := by
    rw [Nat.mul_add, show 2 * (L + 1) = 2 * L + 2 from by omega, Nat.add_mul]
  rw [e] at a
  generalize 2 * (L + 1) * w1 = y1 at *
  generalize 2 * L * W = y2 at *
  generalize 2 * (L + 1) * w2 = y3 at *
  exact ⟨by omega, fun st2 h2 => by omega⟩
section TJX
variable {xc xn xe xd xu : Int32} {ob su ne ki fi sd bo ta cu fo ma : Nat → Int32}
theorem tj_node1 {post : SX → Prop} {H : Nat → Prop} {np g ck cf cs : Nat → Nat} {nd nc d p c n st : Nat}
    (hob : ∀ r o, r < 32 → o < 8 → (bt (ob r) o = true ↔ H (8 * r + o))) (hsu : ∀ r o, r < 32 → o < 8 → (bt (su (4 * o + r % 4)) (r / 4) = true ↔ H (8 * r + o)))
    (hne : ∀ k, k < 4 → ne k = nI (np k) ∧ np k < 1728) (hki : ∀ i, i < 3 → ki i = nI (ck i) ∧ ck i ≤ 2 ∧ fi i = nI (cf i) ∧ cf i < 12 ∧ sd i = nI (cs i) ∧ cs i < 12) (hnd : nd ≤ 4) (hnc : nc ≤ 3)
    (hdn : d ≤ nd) (hg : tj_ok g) (hp : p < 1728) (hb : ∀ v, v < 4 → bo (4 * d + v) = nI (g v)) (hpa : tj_pat ta np xe d p) (hxe : d = nd → ¬ xe = -1)
    (hfr : d + 1 < nd → ∃ i, i < nd ∧ ∀ j, j < d + 1 → ¬ ta j = nI i) (hst : st < 4000000) (hc : c ≤ 256) (hcu : cu d = nI c)
    (hhit : ∀ s bo' ta' cu' fo', c ≤ s → s < 256 → H s → tj_ag g p s → (∀ s', c ≤ s' → s' < s → H s' → ¬ tj_ag g p s') → (∀ v, v < 4 → bo' (4 * (d + 1) + v) = nI (tj_bn g p s v)) → (∀ j, j < 4 * (d + 1) → bo' j = bo j) → (∀ j, j < d + 1 → ta' j = ta j) →
      tj_Be nd (d + 1) ta' cu' fo' → (∀ j, j < d → cu' j = cu j) → cu' d = nI (s + 1) → (∀ j, j < d → fo' j = fo j) → fo' d = 1 → wX_refresh_65 post n (nI (d + 1)) (nI (st + 1)) xc (nI nd) xe (nI nc) xu ob su ne ki fi sd bo' ta' cu' fo' ma)
    (hno : ∀ cu' ma', (∀ s', c ≤ s' → s' < 256 → H s' → ¬ tj_ag g p s') → (∀ j, j < d → cu' j = cu j) → (∀ q, tj_mk ma' q ↔ tj_mk ma q ∨ (d = nd ∧ fo d = 0 ∧ q = tj_cod g ∧ tj_ke nc ck cf cs g)) → wX_refresh_65 post n (nI d + (-1)) (nI (st + 1)) xc (nI nd) xe (nI nc) xu ob su ne ki fi sd bo ta cu' fo ma') :
    wX_refresh_65 post (n + 1) (nI d) (nI st) xc (nI nd) xe (nI nc) xu ob su ne ki fi sd bo ta cu fo ma := by
  have hi : vp_in (nI d) 6 := vp_in_nI (by omega) (by omega)
  have cl : (nI d).toNatClampNeg = d := nI_clamp (by omega)
  have key : wX_refresh_102 post (wX_refresh_65 post n) (nI d) (nI st) xc (nI nd) xe (nI nc) xu ob su ne ki fi sd bo ta cu fo ma := by
    unfold wX_refresh_102
    refine br_t (nI_le hdn (by omega)) ?_
    refine tj_xnf (by omega) hg hp hb hob hsu hne hpa hc hcu (fun s cu' a1 a2 a3 a4 a5 a6 a7 => ?_) (fun a1 cu' a2 => ?_)
    · refine br_f (nI_pos (by omega)) (And.intro hi (nm_r (e' := upd fo d 1) (by rw [cl, tj_nb1]) ?_))
      refine tj_xbi hp a2 (by omega) hb hne hpa (fun bo' h1 h2 => ?_)
      refine nm_r (nI_1 d) ?_
      refine tj_xst (d := d + 1) (by omega) hnd hne (tj_bn_ok hg a2) h1 hfr (fun x h3 h4 => ?_)
      refine nm_r (nI_1 st) (hhit s bo' _ _ _ a1 a2 a3 a4 a5 h1 h2 (fun j hj => pk_un (by omega)) ⟨fun h => ?_, fun h => ?_, pk_us, pk_us⟩ (fun j hj => ?_) ?_ (fun j hj => ?_) ?_)
      · obtain ⟨b, b1, b2, b3⟩ := h3 h
        refine ⟨b, b1, fun j hj => ?_, ?_⟩
        · rw [pk_un (by omega)]; exact b2 j hj
        · rw [pk_us]; exact b3
      · rw [pk_us]; exact h4 h
      · rw [pk_un (by omega)]; exact a7 j (by omega)
      · rw [pk_un (by omega)]; exact a6
      · rw [pk_un (by omega), pk_un (by omega)]
      · rw [pk_un (by omega), pk_us]
    · refine br_t (by decide) ?_
      refine pk_eq d nd (fun e => And.intro hi ?_) (fun e => nm_e (nm_r (nI_1 st) (hno cu' ma a1 (fun j hj => a2 j (by omega)) (fun q => ⟨Or.inl, fun z => z.elim id (fun y => absurd y.1 e)⟩))))
      rw [cl]
      refine br_c (fun z => ?_) (fun z => nm_e (nm_r (nI_1 st) (hno cu' ma a1 (fun j hj => a2 j (by omega)) (fun q => ⟨Or.inl, fun w => w.elim id (fun y => absurd y.2.1 z)⟩))))
      refine tj_xof (by omega) hg hb hnc hki (fun ma' hm => nm_e (nm_r (nI_1 st) (hno cu' ma' a1 (fun j hj => a2 j (by omega)) (fun q => ?_))))
      rw [hm q]
      exact or_congr Iff.rfl ⟨fun y => ⟨e, z, y⟩, fun y => y.2.2⟩
  exact br_f (nI_ge (b := 4000000) hst (by decide)) (br_f (nI_pos (by omega)) (pk_eq d nd (fun e => br_f (hxe e) key) (fun e => key)))
theorem tj_node {post : SX → Prop} {H : Nat → Prop} {np g ck cf cs : Nat → Nat} {nd nc d p L ST : Nat} {CT : Nat → Nat → Prop}
    (hob : ∀ r o, r < 32 → o < 8 → (bt (ob r) o = true ↔ H (8 * r + o))) (hsu : ∀ r o, r < 32 → o < 8 → (bt (su (4 * o + r % 4)) (r / 4) = true ↔ H (8 * r + o)))
    (hne : ∀ k, k < 4 → ne k = nI (np k) ∧ np k < 1728) (hki : ∀ i, i < 3 → ki i = nI (ck i) ∧ ck i ≤ 2 ∧ fi i = nI (cf i) ∧ cf i < 12 ∧ sd i = nI (cs i) ∧ cs i < 12) (hnd : nd ≤ 4) (hnc : nc ≤ 3)
    (hdn : d ≤ nd) (hg : tj_ok g) (hp : p < 1728) (hb : ∀ v, v < 4 → bo (4 * d + v) = nI (g v)) (hpa : tj_pat ta np xe d p) (hxe : d = nd → ¬ xe = -1)
    (hfr : d + 1 < nd → ∃ i, i < nd ∧ ∀ j, j < d + 1 → ¬ ta j = nI i) (hST : ST ≤ 4000000)
    (hch : ∀ s, s < 256 → H s → tj_ag g p s → ∀ n st (bo' ta' cu' fo' ma' : Nat → Int32), n + st = 4000001 → st + 1 + 2 * L * tj_W (tj_bn g p s) ≤ 4000000 → (∀ v, v < 4 → bo' (4 * (d + 1) + v) = nI (tj_bn g p s v)) → (∀ j, j < d + 1 → ta' j = ta j) → tj_Be nd (d + 1) ta' cu' fo' →
      (∀ n2 st2 (bo2 ta2 cu2 fo2 ma2 : Nat → Int32), n2 + st2 = 4000001 → st2 ≤ st + 1 + 2 * L * tj_W (tj_bn g p s) → tj_Fr (d + 1) bo' ta' cu' fo' bo2 ta2 cu2 fo2 → (∀ q, q < 6561 → (tj_mk ma2 q ↔ tj_mk ma' q ∨ CT s q)) →
        wX_refresh_65 post n2 (nI (d + 1) + (-1)) (nI st2) xc (nI nd) xe (nI nc) xu ob su ne ki fi sd bo2 ta2 cu2 fo2 ma2) →
      wX_refresh_65 post n (nI (d + 1)) (nI st) xc (nI nd) xe (nI nc) xu ob su ne ki fi sd bo' ta' cu' fo' ma')
    (hK : ∀ n2 st2 (bo2 ta2 cu2 fo2 ma2 : Nat → Int32), n2 + st2 = 4000001 → st2 ≤ ST → tj_Fr d bo ta cu fo bo2 ta2 cu2 fo2 →
      (∀ q, q < 6561 → (tj_mk ma2 q ↔ tj_mk ma q ∨ (∃ s, s < 256 ∧ H s ∧ tj_ag g p s ∧ CT s q) ∨ (d = nd ∧ (∀ s, s < 256 → H s → ¬ tj_ag g p s) ∧ q = tj_cod g ∧ tj_ke nc ck cf cs g))) →
      wX_refresh_65 post n2 (nI d + (-1)) (nI st2) xc (nI nd) xe (nI nc) xu ob su ne ki fi sd bo2 ta2 cu2 fo2 ma2) :
    ∀ m c n st (bo' ta' cu' fo' ma' : Nat → Int32), 256 - c = m → c ≤ 256 → n + st = 4000001 → st + 1 + 2 * (L + 1) * tj_w g p c ≤ ST → (∀ j, j < 4 * (d + 1) → bo' j = bo j) → (∀ j, j < d + 1 → ta' j = ta j) → (∀ j, j < d → cu' j = cu j) → cu' d = nI c → (∀ j, j < d → fo' j = fo j) →
      ((fo' d = 0 ∧ ∀ s, s < c → H s → ¬ tj_ag g p s) ∨ (¬ fo' d = 0 ∧ ∃ s, s < c ∧ H s ∧ tj_ag g p s)) → (∀ q, q < 6561 → (tj_mk ma' q ↔ tj_mk ma q ∨ ∃ s, s < c ∧ H s ∧ tj_ag g p s ∧ CT s q)) →
      wX_refresh_65 post n (nI d) (nI st) xc (nI nd) xe (nI nc) xu ob su ne ki fi sd bo' ta' cu' fo' ma' := by
  intro m
  induction m using Nat.strongRecOn with
  | ind m ih =>
    intro c n st bo' ta' cu' fo' ma' hm hc hn hS h1 h2 h3 h4 h5 h6 h7
    obtain ⟨n', rfl⟩ : ∃ n', n = n' + 1 := ⟨n - 1, by omega⟩
    have hpa' : tj_pat ta' np xe d p := by
      unfold tj_pat at hpa ⊢
      rw [h2 d (by omega)]
      exact hpa
    refine tj_node1 hob hsu hne hki hnd hnc hdn hg hp (fun v hv => (h1 _ (by omega)).trans (hb v hv)) hpa' hxe (fun h => ?_) (by omega) hc h4 ?_ ?_
    · obtain ⟨i, i1, i2⟩ := hfr h
      exact ⟨i, i1, fun j hj => by rw [h2 j hj]; exact i2 j hj⟩
    · intro s bo3 ta3 cu3 fo3 a1 a2 a3 a4 a5 a6 a7 a8 a9 a10 a11 a12 a13
      have w := tj_w_s (c := c) hp a2 a1 a4
      have w1 := tj_W_pos (tj_bn_ok (p := p) hg a2)
      obtain ⟨y1, y2⟩ := tj_arith w w1 hS
      refine hch s a2 a3 a4 n' (st + 1) bo3 ta3 cu3 fo3 ma' (by omega) (by omega) a6 (fun j hj => (a8 j hj).trans (h2 j hj)) a9 ?_
      intro n2 st2 bo2 ta2 cu2 fo2 ma2 c1 c2 c3 c4
      obtain ⟨f1, f2, f3, f4⟩ := c3
      rw [pk_m1 d]
      refine ih (256 - (s + 1)) (by omega) (s + 1) n2 st2 bo2 ta2 cu2 fo2 ma2 rfl (by omega) c1 (y2 st2 c2) (fun j hj => (f1 j hj).trans ((a7 j hj).trans (h1 j hj))) (fun j hj => (f2 j hj).trans ((a8 j hj).trans (h2 j hj))) (fun j hj => (f3 j (by omega)).trans ((a10 j hj).trans (h3 j hj))) ((f3 d (by omega)).trans a11) (fun j hj => (f4 j (by omega)).trans ((a12 j hj).trans (h5 j hj))) (Or.inr ⟨?_, s, by omega, a3, a4⟩) (fun q hq => ?_)
      · rw [f4 d (by omega), a13]; decide
      · rw [c4 q hq, h7 q hq]
        constructor
        · rintro ((z | ⟨s', s1, s2, s3, s4⟩) | z)
          · exact Or.inl z
          · exact Or.inr ⟨s', by omega, s2, s3, s4⟩
          · exact Or.inr ⟨s, by omega, a3, a4, z⟩
        · rintro (z | ⟨s', s1, s2, s3, s4⟩)
          · exact Or.inl (Or.inl z)
          · by_cases e : s' = s
            · rw [e] at s4
              exact Or.inr s4
            · by_cases e2 : s' < c
              · exact Or.inl (Or.inr ⟨s', e2, s2, s3, s4⟩)
              · exact absurd s3 (a5 s' (by omega) (by omega) s2)
    · intro cu2 ma2 a1 a2 a3
      refine hK n' (st + 1) bo' ta' cu2 fo' ma2 (by omega) (by omega) ⟨fun j hj => h1 j (by omega), fun j hj => h2 j (by omega), fun j hj => (a2 j hj).trans (h3 j hj), h5⟩ (fun q hq => ?_)
      have all : (∀ s, s < c → H s → ¬ tj_ag g p s) → ∀ s, s < 256 → H s → ¬ tj_ag g p s := by
        intro z s hs
        by_cases e : s < c
        · exact z s e
        · exact a1 s (by omega) hs
      rw [a3 q, h7 q hq]
      constructor
      · rintro ((z | ⟨s', s1, s2, s3, s4⟩) | ⟨z1, z2, z3⟩)
        · exact Or.inl z
        · exact Or.inr (Or.inl ⟨s', by omega, s2, s3, s4⟩)
        · refine Or.inr (Or.inr ⟨z1, all ?_, z3⟩)
          rcases h6 with ⟨_, y⟩ | ⟨y, _⟩
          · exact y
          · exact absurd z2 y
      · rintro (z | ⟨s', s1, s2, s3, s4⟩ | ⟨z1, z2, z3⟩)
        · exact Or.inl (Or.inl z)
        · by_cases e2 : s' < c
          · exact Or.inl (Or.inr ⟨s', e2, s2, s3, s4⟩)
          · exact absurd s3 (a1 s' (by omega) s1 s2)
        · refine Or.inr ⟨z1, ?_, z3⟩
          rcases h6 with ⟨y, _⟩ | ⟨_, s', y1, y2, y3⟩
          · exact y
          · exact absurd y3 (z2 s' (by omega) y2)
end TJX
end
section
/-! the whole search: L2 by e4; depth by depth -/
theorem tj_ag_cg {f g : Nat → Nat} {p s : Nat} (hp : p < 1728) (e : tj_e4 f g) (h : tj_ag f p s) : tj_ag g p s := by
  refine ⟨fun k hk => ?_, h.2⟩
  have a := h.1 k hk
  unfold tj_a1 at a ⊢
  rw [tj_val_cg e (tj_ent_lt hp)] at a
  exact a
theorem tj_bn_cg {f g : Nat → Nat} {p s : Nat} (e : tj_e4 f g) : tj_e4 (tj_bn f p s) (tj_bn g p s) := by
  intro v hv
  rw [tj_bn_if, tj_bn_if, e v hv]
theorem tj_L2_cg {H : Nat → Prop} {xp : Option Nat} {K : (Nat → Nat) → Prop} (hx : ∀ p, xp = some p → p < 1728) (hK : ∀ f g, tj_e4 f g → K f → K g) {f g : Nat → Nat} {c : Nat} (e : tj_e4 f g) (h : tj_L2 H xp K f c) : tj_L2 H xp K g c := by
  cases xp with
  | none => exact ⟨h.1.trans (tj_cod_cg e), hK f g e h.2⟩
  | some p =>
    rcases h with ⟨s, a1, a2, a3, a4, a5⟩ | ⟨a1, a2, a3⟩
    · exact Or.inl ⟨s, a1, a2, tj_ag_cg (hx p rfl) e a3, a4.trans (tj_cod_cg (tj_bn_cg e)), hK _ _ (tj_bn_cg e) a5⟩
    · exact Or.inr ⟨fun s h1 h2 h3 => a1 s h1 h2 (tj_ag_cg (hx p rfl) (tj_e4_s e) h3), a2.trans (tj_cod_cg e), hK f g e a3⟩
/-- what is marked below a depth -/
def tj_Tg (H : Nat → Prop) (nd : Nat) (np : Nat → Nat) (xp : Option Nat) (K : (Nat → Nat) → Prop) (d : Nat) (g : Nat → Nat) (ta : Nat → Int32) (q : Nat) : Prop :=
  (d ≤ nd ∧ ∃ f, tj_L1 H np (fun k => k < nd ∧ ∀ j, j < d → ¬ ta j = nI k) g f ∧ tj_L2 H xp K f q) ∨ (nd < d ∧ q = tj_cod g ∧ K g)
theorem tj_Tg_nd {H : Nat → Prop} {nd : Nat} {np : Nat → Nat} {xp : Option Nat} {K : (Nat → Nat) → Prop} {g : Nat → Nat} {ta : Nat → Int32} {q : Nat} (hx : ∀ p, xp = some p → p < 1728) (hK : ∀ f g, tj_e4 f g → K f → K g) (hg : tj_ok g)
    (h : ∀ k, k < nd → ¬ ∀ j, j < nd → ¬ ta j = nI k) : tj_Tg H nd np xp K nd g ta q ↔ tj_L2 H xp K g q := by
  unfold tj_Tg
  have h0 : ∀ k, ¬ (k < nd ∧ ∀ j, j < nd → ¬ ta j = nI k) := fun k z => h k z.1 z.2
  constructor
  · rintro (⟨_, f, f1, f2⟩ | ⟨z, _⟩)
    · exact tj_L2_cg hx hK ((tj_L1_0 h0 hg).mp f1) f2
    · omega
  · intro z
    exact Or.inl ⟨Nat.le_refl nd, g, (tj_L1_0 h0 hg).mpr (tj_e4_r g), z⟩
section TJX
variable {xc xn xe xd xu : Int32} {ob su ne ki fi sd bo ta cu fo ma : Nat → Int32}
theorem tj_leaf {post : SX → Prop} {g ck cf cs : Nat → Nat} {nd nc d n st : Nat}
    (hki : ∀ i, i < 3 → ki i = nI (ck i) ∧ ck i ≤ 2 ∧ fi i = nI (cf i) ∧ cf i < 12 ∧ sd i = nI (cs i) ∧ cs i < 12) (hnd : nd ≤ 4) (hnc : nc ≤ 3) (hd : nd < d ∨ (d = nd ∧ xe = -1)) (hd6 : d < 6) (hg : tj_ok g) (hb : ∀ v, v < 4 → bo (4 * d + v) = nI (g v)) (hst : st < 4000000)
    (hK : ∀ ma', (∀ q, tj_mk ma' q ↔ tj_mk ma q ∨ (q = tj_cod g ∧ tj_ke nc ck cf cs g)) → wX_refresh_65 post n (nI d + (-1)) (nI (st + 1)) xc (nI nd) xe (nI nc) xu ob su ne ki fi sd bo ta cu fo ma') :
    wX_refresh_65 post (n + 1) (nI d) (nI st) xc (nI nd) xe (nI nc) xu ob su ne ki fi sd bo ta cu fo ma := by
  refine br_f (nI_ge (b := 4000000) hst (by decide)) (br_f (nI_pos (by omega)) (pk_eq d nd (fun e => ?_) (fun e => ?_)))
  · refine br_t (hd.elim (fun z => absurd z (by omega)) (fun z => z.2)) ?_
    exact tj_xof hd6 hg hb hnc hki (fun ma' hm => nm_e (nm_r (nI_1 st) (hK ma' hm)))
  · unfold wX_refresh_102
    refine br_f (nI_ge (by omega) (by omega)) ?_
    exact tj_xof hd6 hg hb hnc hki (fun ma' hm => nm_e (nm_r (nI_1 st) (hK ma' hm)))
theorem tj_sub {post : SX → Prop} {H : Nat → Prop} {np ck cf cs : Nat → Nat} {xp : Option Nat} {nd nc : Nat}
    (hob : ∀ r o, r < 32 → o < 8 → (bt (ob r) o = true ↔ H (8 * r + o))) (hsu : ∀ r o, r < 32 → o < 8 → (bt (su (4 * o + r % 4)) (r / 4) = true ↔ H (8 * r + o)))
    (hne : ∀ k, k < 4 → ne k = nI (np k) ∧ np k < 1728) (hki : ∀ i, i < 3 → ki i = nI (ck i) ∧ ck i ≤ 2 ∧ fi i = nI (cf i) ∧ cf i < 12 ∧ sd i = nI (cs i) ∧ cs i < 12) (hnd : nd ≤ 4) (hnc : nc ≤ 3) (hx : ∀ p, xp = some p → p < 1728) :
    ∀ L d, d + L = nd + 1 → ∀ g n st (bo ta cu fo ma : Nat → Int32), tj_ok g → (∀ v, v < 4 → bo (4 * d + v) = nI (g v)) → tj_Be nd d ta cu fo → (d ≤ nd → tj_cn (fun k => ∀ j, j < d → ¬ ta j = nI k) nd + d = nd) → n + st = 4000001 → st + 1 + 2 * L * tj_W g ≤ 4000000 →
      (∀ n2 st2 (bo2 ta2 cu2 fo2 ma2 : Nat → Int32), n2 + st2 = 4000001 → st2 ≤ st + 1 + 2 * L * tj_W g → tj_Fr d bo ta cu fo bo2 ta2 cu2 fo2 → (∀ q, q < 6561 → (tj_mk ma2 q ↔ tj_mk ma q ∨ tj_Tg H nd np xp (tj_ke nc ck cf cs) d g ta q)) →
        wX_refresh_65 post n2 (nI d + (-1)) (nI st2) xc (nI nd) (tj_xI xp) (nI nc) xu ob su ne ki fi sd bo2 ta2 cu2 fo2 ma2) →
      wX_refresh_65 post n (nI d) (nI st) xc (nI nd) (tj_xI xp) (nI nc) xu ob su ne ki fi sd bo ta cu fo ma := by
  have hKK : ∀ f g, tj_e4 f g → tj_ke nc ck cf cs f → tj_ke nc ck cf cs g := fun f g e h => tj_ke_cg (fun i hi => (hki i (by omega)).2.2.2.1) (fun i hi => (hki i (by omega)).2.2.2.2.2) e h
  intro L
  induction L with
  | zero =>
    intro d hd g n st bo ta cu fo ma hg hb hBe hcn hn hS hK
    obtain ⟨n', rfl⟩ : ∃ n', n = n' + 1 := ⟨n - 1, by omega⟩
    refine tj_leaf hki hnd hnc (Or.inl (by omega)) (by omega) hg hb (by omega) (fun ma' hm => hK n' (st + 1) bo ta cu fo ma' (by omega) (by omega) ⟨fun _ _ => rfl, fun _ _ => rfl, fun _ _ => rfl, fun _ _ => rfl⟩ (fun q hq => ?_))
    rw [hm q]
    unfold tj_Tg
    refine or_congr Iff.rfl ⟨fun z => Or.inr ⟨by omega, z⟩, ?_⟩
    rintro (⟨z, _⟩ | ⟨_, z⟩)
    · omega
    · exact z
  | succ L ih =>
    intro d hd g n st bo ta cu fo ma hg hb hBe hcn hn hS hK
    have hdn : d ≤ nd := by omega
    have hcn' := hcn hdn
    obtain ⟨hB1, hB2, hB3, hB4⟩ := hBe
    by_cases hdd : d = nd
    · subst hdd
      have hno : ∀ k, k < d → ¬ ∀ j, j < d → ¬ ta j = nI k := by
        intro k hk z
        have := tj_cn_pos (P := fun k => ∀ j, j < d → ¬ ta j = nI k) hk z
        omega
      have hT : ∀ q, tj_Tg H d np xp (tj_ke nc ck cf cs) d g ta q ↔ tj_L2 H xp (tj_ke nc ck cf cs) g q := fun q => tj_Tg_nd hx hKK hg hno
      cases xp with
      | none =>
        obtain ⟨n', rfl⟩ : ∃ n', n = n' + 1 := ⟨n - 1, by omega⟩
        refine tj_leaf hki hnd hnc (Or.inr ⟨rfl, rfl⟩) (by omega) hg hb (by omega) (fun ma' hm => hK n' (st + 1) bo ta cu fo ma' (by omega) (by omega) ⟨fun _ _ => rfl, fun _ _ => rfl, fun _ _ => rfl, fun _ _ => rfl⟩ (fun q hq => ?_))
        rw [hm q, hT q]
        exact Iff.rfl
      | some p =>
        have hp := hx p rfl
        have w1 : st + 1 + 2 * (L + 1) * tj_w g p 0 ≤ st + 1 + 2 * (L + 1) * tj_W g := Nat.add_le_add_left (Nat.mul_le_mul_left _ (tj_w_le g p 0)) _
        refine tj_node (L := L) (p := p) (g := g) (ST := st + 1 + 2 * (L + 1) * tj_W g) (CT := fun s q => q = tj_cod (tj_bn g p s) ∧ tj_ke nc ck cf cs (tj_bn g p s)) hob hsu hne hki hnd hnc hdn hg hp hb (Or.inl ⟨hB2 (Nat.le_refl d), rfl⟩) (fun _ => tj_nIm1 (by omega)) (fun h => by omega) hS ?_ ?_ 256 0 n st bo ta cu fo ma rfl (by omega) hn w1 (fun _ _ => rfl) (fun _ _ => rfl) (fun _ _ => rfl) hB3 (fun _ _ => rfl) (Or.inl ⟨hB4, fun s hs => absurd hs (by omega)⟩) (fun q _ => ⟨Or.inl, fun z => z.elim id (fun ⟨s, s1, _⟩ => absurd s1 (by omega))⟩)
        · intro s s1 s2 s3 n1 st1 bo1 ta1 cu1 fo1 ma1 b1 b2 b3 b4 b5 b6
          refine ih (d + 1) (by omega) (tj_bn g p s) n1 st1 bo1 ta1 cu1 fo1 ma1 (tj_bn_ok hg s1) b3 b5 (fun h => by omega) b1 b2 (fun n2 st2 bo2 ta2 cu2 fo2 ma2 c1 c2 c3 c4 => b6 n2 st2 bo2 ta2 cu2 fo2 ma2 c1 c2 c3 (fun q hq => ?_))
          rw [c4 q hq]
          unfold tj_Tg
          refine or_congr Iff.rfl ⟨?_, fun z => Or.inr ⟨by omega, z⟩⟩
          rintro (⟨z, _⟩ | ⟨_, z⟩)
          · omega
          · exact z
        · intro n2 st2 bo2 ta2 cu2 fo2 ma2 c1 c2 c3 c4
          refine hK n2 st2 bo2 ta2 cu2 fo2 ma2 c1 c2 c3 (fun q hq => ?_)
          rw [c4 q hq, hT q]
          exact or_congr Iff.rfl (or_congr Iff.rfl ⟨fun z => z.2, fun z => ⟨rfl, z⟩⟩)
    · obtain ⟨b, b1, b2, b3⟩ := hB1 (by omega)
      have hp := (hne b (by omega)).2
      have w1 : st + 1 + 2 * (L + 1) * tj_w g (np b) 0 ≤ st + 1 + 2 * (L + 1) * tj_W g := Nat.add_le_add_left (Nat.mul_le_mul_left _ (tj_w_le g (np b) 0)) _
      have hR : ∀ (ta1 : Nat → Int32), (∀ j, j < d + 1 → ta1 j = ta j) → ∀ k, k < nd → ((∀ j, j < d + 1 → ¬ ta1 j = nI k) ↔ ((∀ j, j < d → ¬ ta j = nI k) ∧ k ≠ b)) := by
        intro ta1 ht k hk
        constructor
        · intro z
          refine ⟨fun j hj => by rw [← ht j (by omega)]; exact z j (by omega), fun e => z d (by omega) ?_⟩
          rw [ht d (by omega), b3, e]
        · intro z j hj
          rw [ht j hj]
          by_cases e : j = d
          · rw [e, b3]
            exact fun y => z.2 ((nI_eq (by omega) (by omega)).mp y).symm
          · exact z.1 j (by omega)
      have hcr := tj_cn_rm (P := fun k => ∀ j, j < d → ¬ ta j = nI k) b2 nd b1
      have hcc : ∀ (ta1 : Nat → Int32), (∀ j, j < d + 1 → ta1 j = ta j) → tj_cn (fun k => ∀ j, j < d + 1 → ¬ ta1 j = nI k) nd + (d + 1) = nd := by
        intro ta1 ht
        rw [tj_cn_cg (Q := fun k => (∀ j, j < d → ¬ ta j = nI k) ∧ k ≠ b) nd (hR ta1 ht)]
        omega
      refine tj_node (L := L) (p := np b) (g := g) (ST := st + 1 + 2 * (L + 1) * tj_W g) (CT := fun s q => ∃ f, tj_L1 H np (fun k => (k < nd ∧ ∀ j, j < d → ¬ ta j = nI k) ∧ k ≠ b) (tj_bn g (np b) s) f ∧ tj_L2 H xp (tj_ke nc ck cf cs) f q) hob hsu hne hki hnd hnc hdn hg hp hb (Or.inr ⟨b, by omega, b3, rfl⟩) (fun e => absurd e hdd) (fun h => ?_) hS ?_ ?_ 256 0 n st bo ta cu fo ma rfl (by omega) hn w1 (fun _ _ => rfl) (fun _ _ => rfl) (fun _ _ => rfl) hB3 (fun _ _ => rfl) (Or.inl ⟨hB4, fun s hs => absurd hs (by omega)⟩) (fun q _ => ⟨Or.inl, fun z => z.elim id (fun ⟨s, s1, _⟩ => absurd s1 (by omega))⟩)
      · have := hcc ta (fun _ _ => rfl)
        exact tj_cn_ex (by omega)
      · intro s s1 s2 s3 n1 st1 bo1 ta1 cu1 fo1 ma1 e1 e2 e3 e4 e5 e6
        refine ih (d + 1) (by omega) (tj_bn g (np b) s) n1 st1 bo1 ta1 cu1 fo1 ma1 (tj_bn_ok hg s1) e3 e5 (fun _ => hcc ta1 e4) e1 e2 (fun n2 st2 bo2 ta2 cu2 fo2 ma2 c1 c2 c3 c4 => e6 n2 st2 bo2 ta2 cu2 fo2 ma2 c1 c2 c3 (fun q hq => ?_))
        rw [c4 q hq]
        unfold tj_Tg
        have eR : (fun k => k < nd ∧ ∀ j, j < d + 1 → ¬ ta1 j = nI k) = (fun k => (k < nd ∧ ∀ j, j < d → ¬ ta j = nI k) ∧ k ≠ b) := by
          funext k
          apply propext
          constructor
          · intro z
            have a := (hR ta1 e4 k z.1).mp z.2
            exact ⟨⟨z.1, a.1⟩, a.2⟩
          · intro z
            exact ⟨z.1.1, (hR ta1 e4 k z.1.1).mpr ⟨z.1.2, z.2⟩⟩
        rw [eR]
        refine or_congr Iff.rfl ⟨?_, fun z => Or.inl ⟨by omega, z⟩⟩
        rintro (⟨_, z⟩ | ⟨z, _⟩)
        · exact z
        · omega
      · intro n2 st2 bo2 ta2 cu2 fo2 ma2 c1 c2 c3 c4
        refine hK n2 st2 bo2 ta2 cu2 fo2 ma2 c1 c2 c3 (fun q hq => ?_)
        rw [c4 q hq]
        have hL := fun f => tj_L1_s (H := H) (np := np) (R := fun k => k < nd ∧ ∀ j, j < d → ¬ ta j = nI k) (K := b) ⟨b1, b2⟩ hp (g := g) (f := f) hg
        refine or_congr Iff.rfl ?_
        unfold tj_Tg
        constructor
        · rintro (⟨s, s1, s2, s3, f, f1, f2⟩ | ⟨z, _⟩)
          · exact Or.inl ⟨hdn, f, (hL f).mpr ⟨s, s1, s2, s3, f1⟩, f2⟩
          · exact absurd z hdd
        · rintro (⟨_, f, f1, f2⟩ | ⟨z, _⟩)
          · obtain ⟨s, s1, s2, s3, s4⟩ := (hL f).mp f1
            exact Or.inl ⟨s, s1, s2, s3, f, s4, f2⟩
          · omega
/-! refresh -/
theorem tj_x37 {post : SX → Prop} (hQ : ∀ bo', (∀ v, v < 4 → bo' v = nI 8) → wpX_start (fun u => match u with | (y1, y2, y3, y4, y5, y6, y7, y8, y9, y10, y11, y12, y13, y14, y15, y16) => ∃ n65 : Nat, wX_refresh_65 post n65 0 0 y1 y2 y3 y4 y5 y6 y7 y8 y9 y10 y11 y12 y13 y14 y15 y16) (xc, xn, xe, xd, xu, ob, su, ne, ki, fi, sd, bo', ta, cu, fo, ma) 0) :
    ∀ m v (bo : Nat → Int32), v + m = 4 → (∀ i, i < v → bo i = nI 8) → wX_refresh_37 post xc xn xe xd xu (m + 1) (nI v) ob su ne ki fi sd bo ta cu fo ma := by
  intro m
  induction m with
  | zero =>
    intro v bo hv hb
    exact br_t (nI_le (a := 4) (by omega) (by omega)) (hQ bo (fun i hi => hb i (by omega)))
  | succ m ih =>
    intro v bo hv hb
    refine br_f (nI_ge (b := 4) (by omega) (by decide)) ⟨vp_in_nI (by omega) (by omega), nm_r (e' := upd bo v (nI 8)) (by rw [nI_clamp (by omega)]; rfl) (nm_r (nI_1 v) (ih (v + 1) _ (by omega) (fun i hi => ?_)))⟩
    by_cases z : i = v
    · rw [z, pk_us]
    · rw [pk_un z]; exact hb i (by omega)
theorem tj_x15 {post : SX → Prop} (hQ : ∀ ma', (∀ v, v < 206 → ma' v = 0) → ∃ n, wX_refresh_37 post xc xn xe xd xu n 0 ob su ne ki fi sd bo ta cu fo ma') :
    ∀ m v (ma : Nat → Int32), v + m = 206 → (∀ i, i < v → ma i = 0) → wX_refresh_15 post xc xn xe xd xu (m + 1) (nI v) ob su ne ki fi sd bo ta cu fo ma := by
  intro m
  induction m with
  | zero =>
    intro v ma hv hb
    exact br_t (nI_le (a := 206) (by omega) (by omega)) (hQ ma (fun i hi => hb i (by omega)))
  | succ m ih =>
    intro v ma hv hb
    refine br_f (nI_ge (b := 206) (by omega) (by decide)) ⟨vp_in_nI (by omega) (by omega), nm_r (e' := upd ma v 0) (by rw [nI_clamp (by omega)]) (nm_r (nI_1 v) (ih (v + 1) _ (by omega) (fun i hi => ?_)))⟩
    by_cases z : i = v
    · rw [z, pk_us]
    · rw [pk_un z]; exact hb i (by omega)
theorem tj_xrf {post : SX → Prop} {H : Nat → Prop} {np ck cf cs : Nat → Nat} {xp : Option Nat} {nd nc : Nat}
    (hob : ∀ r o, r < 32 → o < 8 → (bt (ob r) o = true ↔ H (8 * r + o))) (hsu : ∀ r o, r < 32 → o < 8 → (bt (su (4 * o + r % 4)) (r / 4) = true ↔ H (8 * r + o)))
    (hne : ∀ k, k < 4 → ne k = nI (np k) ∧ np k < 1728) (hki : ∀ i, i < 3 → ki i = nI (ck i) ∧ ck i ≤ 2 ∧ fi i = nI (cf i) ∧ cf i < 12 ∧ sd i = nI (cs i) ∧ cs i < 12) (hnd : nd ≤ 4) (hnc : nc ≤ 3) (hx : ∀ p, xp = some p → p < 1728)
    (hcur : xu = 0 ∨ (xu = 1 ∧ ∀ q, q < 6561 → (tj_mk ma q ↔ tj_So H nd np xp (tj_ke nc ck cf cs) (tj_dig q))))
    (h : ∀ bo' ta' cu' fo' ma' : Nat → Int32, (∀ q, q < 6561 → (tj_mk ma' q ↔ tj_So H nd np xp (tj_ke nc ck cf cs) (tj_dig q))) → post (xc, nI nd, tj_xI xp, nI nc, 1, ob, su, ne, ki, fi, sd, bo', ta', cu', fo', ma')) :
    wpX_refresh post (xc, nI nd, tj_xI xp, nI nc, xu, ob, su, ne, ki, fi, sd, bo, ta, cu, fo, ma) := by
  have hKK : ∀ f g, tj_e4 f g → tj_ke nc ck cf cs f → tj_ke nc ck cf cs g := fun f g e h => tj_ke_cg (fun i hi => (hki i (by omega)).2.2.2.1) (fun i hi => (hki i (by omega)).2.2.2.2.2) e h
  rcases hcur with hu | ⟨hu, hm⟩
  · subst hu
    refine br_t rfl ⟨207, ?_⟩
    refine tj_x15 (fun ma' hma => ⟨5, ?_⟩) 206 0 ma (by omega) (fun i hi => absurd hi (by omega))
    refine tj_x37 (fun bo' hbo => ?_) 4 0 bo (by omega) (fun i hi => absurd hi (by omega))
    have ok8 : tj_ok (fun _ => 8) := fun _ _ => Nat.le_refl 8
    have hb0 : ∀ v, v < 4 → bo' (4 * 0 + v) = nI ((fun _ => 8) v) := fun v hv => by rw [show 4 * 0 + v = v from by omega]; exact hbo v hv
    refine tj_xst (d := 0) (g := fun _ => 8) (by omega) hnd hne ok8 hb0 (fun h => ⟨0, h, fun j hj => absurd hj (by omega)⟩) (fun x h3 h4 => ⟨4000001, ?_⟩)
    have hW := tj_W_le (fun _ => 8)
    have hm8 : 2 * (nd + 1) * tj_W (fun _ => 8) ≤ 10 * 4096 := Nat.mul_le_mul (by omega) hW
    refine tj_sub hob hsu hne hki hnd hnc hx (nd + 1) 0 (by omega) (fun _ => 8) 4000001 0 bo' _ _ _ ma' ok8 hb0 ⟨fun h => ?_, fun h => ?_, pk_us, pk_us⟩ (fun _ => ?_) (by omega) (by omega) ?_
    · obtain ⟨b, b1, b2, b3⟩ := h3 h
      exact ⟨b, b1, fun j hj => absurd hj (by omega), by rw [pk_us]; exact b3⟩
    · rw [pk_us]; exact h4 h
    · rw [tj_cn_cg (Q := fun _ => True) nd (fun i hi => ⟨fun _ => trivial, fun _ j hj => absurd hj (by omega)⟩)]
      have : ∀ n, tj_cn (fun _ => True) n = n := by
        intro n
        induction n with
        | zero => rfl
        | succ n ih => rw [tj_cn_t trivial, ih]
      rw [this]; omega
    · intro n2 st2 bo2 ta2 cu2 fo2 ma2 c1 c2 _ c4
      obtain ⟨n', rfl⟩ : ∃ n', n2 = n' + 1 := ⟨n2 - 1, by omega⟩
      have fin := h bo2 ta2 cu2 fo2 ma2 (fun q hq => ?_)
      · exact br_c (fun _ => fin) (fun _ => br_t (by decide) fin)
      · rw [c4 q hq]
        have z : ¬ tj_mk ma' q := by
          unfold tj_mk
          rw [hma _ (by omega), b_0]
          decide
        have eR : (fun k => k < nd ∧ ∀ j, j < 0 → ¬ upd ta 0 x j = nI k) = (fun k => k < nd) := by
          funext k
          exact propext ⟨fun z => z.1, fun z => ⟨z, fun j hj => absurd hj (by omega)⟩⟩
        unfold tj_Tg
        rw [eR]
        constructor
        · rintro (y | ⟨_, f, f1, f2⟩ | ⟨y, _⟩)
          · exact absurd y z
          · exact tj_main1 (fun k hk => (hne k (by omega)).2) hx hKK f1 f2
          · omega
        · intro y
          exact Or.inr (Or.inl ⟨by omega, tj_main2 (fun k hk => (hne k (by omega)).2) hx hKK hq y⟩)
  · subst hu
    exact br_f (by decide) (h bo ta cu fo ma hm)
end TJX
end
section
section TJY
variable {xc xn xe xd yb ym : Int32} {he ne ki fi sd gi so : Nat → Int32}
/-! fits -/
theorem tj_y38s {post : Int32 → Prop} {J : Int32 → Prop} {p s i n j : Nat} (hp : p < 1728) (hs : s < 256) (hi : i < 3) (hj : j < i)
    (ht : (8 ≤ tj_ent p i → tj_ent p j = tj_ent p i → tj_par s j = tj_par s i) → wY_fits_38 post J (nI s) (nI p) (nI i) (nI (tj_ent p i)) xc xn xe xd yb ym he ne ki fi sd gi so n (nI (j + 1)))
    (hf : ¬ (8 ≤ tj_ent p i → tj_ent p j = tj_ent p i → tj_par s j = tj_par s i) → post 0) : wY_fits_38 post J (nI s) (nI p) (nI i) (nI (tj_ent p i)) xc xn xe xd yb ym he ne ki fi sd gi so (n + 1) (nI j) := by
  have e1 := tj_ent_lt (k := i) hp
  have e2 := tj_ent_lt (k := j) hp
  have q1 := tj_par_lt (k := i) hs
  have q2 := tj_par_lt (k := j) hs
  refine br_f (nI_ge hj (by omega)) ?_
  refine pk_le (tj_ent p i) 7 (fun h => nm_r (nI_1 j) (ht (fun z => by omega))) (fun h => ?_)
  refine tj_ye hp (by omega) ?_
  refine pk_eq (tj_ent p j) (tj_ent p i) (fun e => ?_) (fun e => nm_r (nI_1 j) (ht (fun _ z => absurd z e)))
  refine tj_yp hs (by omega) ?_
  refine tj_yp hs hi ?_
  exact pk_eq (tj_par s j) (tj_par s i) (fun q => nm_r (nI_1 j) (ht (fun _ _ => q))) (fun q => hf (fun z => q (z (by omega) e)))
def tj_f1 (p s i : Nat) : Prop := (tj_ent p i < 8 → tj_ent p i = tj_par s i) ∧ ∀ j, j < i → 8 ≤ tj_ent p i → tj_ent p j = tj_ent p i → tj_par s j = tj_par s i
theorem tj_f1_ft {p s : Nat} : (∀ i, i < 3 → tj_f1 p s i) ↔ tj_ft p s := by
  constructor
  · intro h
    refine ⟨fun k hk => (h k hk).1, fun i j hi hj h8 e => ?_⟩
    by_cases q : j < i
    · exact ((h i hi).2 j q h8 e.symm).symm
    · by_cases q2 : i < j
      · exact (h j hj).2 i q2 (by omega) e
      · have e : i = j := by omega
        rw [e]
  · intro h i hi
    exact ⟨h.1 i hi, fun j hj h8 e => h.2 j i (by omega) hi (by omega) e⟩
theorem tj_y2s {post : Int32 → Prop} {p s n i : Nat} (hp : p < 1728) (hs : s < 256) (hi : i < 3)
    (ht : tj_f1 p s i → wY_fits_2 post (nI s) (nI p) xc xn xe xd yb ym he ne ki fi sd gi so n (nI (i + 1))) (hf : ¬ tj_f1 p s i → post 0) : wY_fits_2 post (nI s) (nI p) xc xn xe xd yb ym he ne ki fi sd gi so (n + 1) (nI i) := by
  have e1 := tj_ent_lt (k := i) hp
  have q1 := tj_par_lt (k := i) hs
  have lo : (tj_ent p i < 8 → tj_ent p i = tj_par s i) → ∃ n38, wY_fits_38 post (wY_fits_2 post (nI s) (nI p) xc xn xe xd yb ym he ne ki fi sd gi so n) (nI s) (nI p) (nI i) (nI (tj_ent p i)) xc xn xe xd yb ym he ne ki fi sd gi so n38 0 := by
    intro h0
    refine ⟨i + 1, ?_⟩
    exact tj_all (W := fun n' j => wY_fits_38 post (wY_fits_2 post (nI s) (nI p) xc xn xe xd yb ym he ne ki fi sd gi so n) (nI s) (nI p) (nI i) (nI (tj_ent p i)) xc xn xe xd yb ym he ne ki fi sd gi so n' (nI j)) (c := fun j => 8 ≤ tj_ent p i → tj_ent p j = tj_ent p i → tj_par s j = tj_par s i) (E := post 0) (A := wY_fits_2 post (nI s) (nI p) xc xn xe xd yb ym he ne ki fi sd gi so n (nI (i + 1))) i
      (fun n' j hj h1 h2 => tj_y38s hp hs hi hj h1 h2) (fun n' a => br_t (nI_le (Nat.le_refl i) (by omega)) (nm_r (nI_1 i) a)) (fun h1 => ht ⟨h0, h1⟩) (fun h1 => hf (fun z => h1 z.2))
  refine br_f (nI_ge (b := 3) hi (by decide)) (tj_ye hp hi ?_)
  refine pk_le 8 (tj_ent p i) (fun h => lo (fun z => by omega)) (fun h => tj_yp hs hi ?_)
  exact pk_eq (tj_ent p i) (tj_par s i) (fun e => lo (fun _ => e)) (fun e => hf (fun z => e (z.1 h)))
theorem tj_yft {post : Int32 → Prop} {p s : Nat} (hp : p < 1728) (hs : s < 256) (ht : tj_ft p s → post 1) (hf : ¬ tj_ft p s → post 0) : wpY_fits post (xc, xn, xe, xd, yb, ym, he, ne, ki, fi, sd, gi, so) (nI s) (nI p) :=
  Exists.intro 4 (tj_all (W := fun n i => wY_fits_2 post (nI s) (nI p) xc xn xe xd yb ym he ne ki fi sd gi so n (nI i)) (c := tj_f1 p s) (E := post 0) (A := post 1) 3
    (fun n i hi h1 h0 => tj_y2s hp hs hi h1 h0) (fun n a => br_t (nI_le (a := 3) (b := 3) (by omega) (by omega)) a) (fun h => ht (tj_f1_ft.mp h)) (fun h => hf (fun z => h (tj_f1_ft.mpr z))))
/-! variables -/
theorem tj_y4 {post : Int32 → Prop} {p : Nat} (hp : p < 1728) (h : ∀ r : Int32, (∀ i, i < 32 → (bt r i = true ↔ tj_vr p i)) → post r) :
    ∀ m k (a : Int32), k + m = 3 → (∀ i, i < 32 → (bt a i = true ↔ ∃ j, j < k ∧ tj_ent p j = 8 + i)) → wY_variables_4 post (nI p) xc xn xe xd yb ym he ne ki fi sd gi so (m + 1) a (nI k) := by
  intro m
  induction m with
  | zero =>
    intro k a hk ha
    have e : k = 3 := by omega
    subst e
    exact br_t (nI_le (a := 3) (b := 3) (by omega) (by omega)) (h a ha)
  | succ m ih =>
    intro k a hk ha
    have e1 := tj_ent_lt (k := k) hp
    refine br_f (nI_ge (b := 3) (by omega) (by decide)) (tj_ye hp (by omega) ?_)
    refine pk_le (tj_ent p k) 7 (fun h7 => nm_r (nI_1 k) (ih (k + 1) a (by omega) (fun i hi => ?_))) (fun h7 => nm_e (nm_r (nI_1 k) (ih (k + 1) _ (by omega) (fun i hi => ?_))))
    · rw [ha i hi]
      constructor
      · intro ⟨j, j1, j2⟩
        exact ⟨j, by omega, j2⟩
      · intro ⟨j, j1, j2⟩
        by_cases e : j = k
        · rw [e] at j2; omega
        · exact ⟨j, by omega, j2⟩
    · have es : nI (tj_ent p k) - 8 = nI (tj_ent p k - 8) := pk_sub (b := 8) (by omega)
      rw [es, tj_set (by omega) hi, ha i hi]
      constructor
      · rintro (⟨j, j1, j2⟩ | z)
        · exact ⟨j, by omega, j2⟩
        · exact ⟨k, by omega, by omega⟩
      · intro ⟨j, j1, j2⟩
        by_cases e : j = k
        · rw [e] at j2; exact Or.inr (by omega)
        · exact Or.inl ⟨j, by omega, j2⟩
theorem tj_yvr {post : Int32 → Prop} {p : Nat} (hp : p < 1728) (h : ∀ r : Int32, (∀ i, i < 32 → (bt r i = true ↔ tj_vr p i)) → post r) : wpY_variables post (xc, xn, xe, xd, yb, ym, he, ne, ki, fi, sd, gi, so) (nI p) :=
  Exists.intro 4 (tj_y4 hp h 3 0 0 rfl (fun i _ => ⟨fun z => absurd z (by rw [b_0]; decide), fun ⟨j, j1, _⟩ => absurd j1 (by omega)⟩))
/-! holds, keeps, agrees, extensible, may -/
theorem tj_yva {post : Int32 → Prop} {g : Nat → Nat} {e : Nat} (h12 : e < 12) (hgi : ∀ v, v < 4 → gi v = nI (g v)) (h : post (nI (tj_val g e))) : wpY_value post (xc, xn, xe, xd, yb, ym, he, ne, ki, fi, sd, gi, so) (nI e) := by
  by_cases h8 : e < 8
  · rw [tj_val_c h8] at h
    exact br_f (nI_ge (b := 8) h8 (by decide)) h
  · have es : nI e - 8 = nI (e - 8) := pk_sub (b := 8) (by omega)
    rw [tj_val_v (by omega), ← hgi _ (by omega)] at h
    refine br_t (nI_le (a := 8) (by omega) (by omega)) ?_
    rw [es, nI_clamp (by omega)]
    exact ⟨vp_in_nI (by omega) (by omega), h⟩
theorem tj_yho {post : Int32 → Prop} {H : Nat → Prop} {g : Nat → Nat} {p : Nat} (hp : p < 1728) (hg : tj_ok g) (hgi : ∀ v, v < 4 → gi v = nI (g v)) (hhe : ∀ s, s < 256 → (he s = 0 ↔ ¬ H s))
    (ht : tj_ho H g p → post 1) (hf : ¬ tj_ho H g p → post 0) : wpY_holds post (xc, xn, xe, xd, yb, ym, he, ne, ki, fi, sd, gi, so) (nI p) := by
  have l0 := tj_val_le hg (tj_ent_lt (k := 0) hp)
  have l1 := tj_val_le hg (tj_ent_lt (k := 1) hp)
  have l2 := tj_val_le hg (tj_ent_lt (k := 2) hp)
  unfold wpY_holds
  refine tj_ye (k := 0) hp (by omega) ?_
  refine tj_ye (k := 1) hp (by omega) ?_
  refine tj_ye (k := 2) hp (by omega) ?_
  refine tj_yva (tj_ent_lt hp) hgi ?_
  refine tj_yva (tj_ent_lt hp) hgi ?_
  refine tj_yva (tj_ent_lt hp) hgi ?_
  unfold tj_ho at ht hf
  generalize tj_val g (tj_ent p 0) = a at *
  generalize tj_val g (tj_ent p 1) = b at *
  generalize tj_val g (tj_ent p 2) = c at *
  refine pk_le 8 a (fun h => hf (fun z => by omega)) (fun h0 => pk_le 4 b (fun h => hf (fun z => by omega)) (fun h1 => pk_le 8 c (fun h => hf (fun z => by omega)) (fun h2 => ?_)))
  have e : 32 * nI a + 8 * nI b + nI c = nI (32 * a + 8 * b + c) := by
    rw [show (32 : Int32) * nI a = nI (32 * a) from pk_mul 32 a, show (8 : Int32) * nI b = nI (8 * b) from pk_mul 8 b, nI_add, nI_add]
  rw [e, nI_clamp (by omega)]
  refine ⟨vp_in_nI (by omega) (by omega), ek_if (hhe _ (by omega)) (fun h => hf (fun z => h z.2.2.2)) (fun h => ht ⟨h0, h1, h2, Classical.byContradiction h⟩)⟩
theorem tj_y84 {post J : Int32 → Prop} {i a b k : Nat} (hi : i < 3) (hk : k ≤ 2) (ek : ki i = nI k) (ha : a ≤ 8) (hb : b ≤ 8)
    (ht : a ≠ 8 ∧ b ≠ 8 ∧ tj_k1 k a b → J (nI (i + 1))) (hf : ¬ (a ≠ 8 ∧ b ≠ 8 ∧ tj_k1 k a b) → post 0) : wY_keeps_84 post J (nI i) (nI a) (nI b) xc xn xe xd yb ym he ne ki fi sd gi so := by
  have h3 : vp_in (nI i) 3 := vp_in_nI hi (by omega)
  unfold wY_keeps_84
  rw [nI_clamp (n := i) (by omega), ek]
  unfold tj_k1 at ht hf
  refine pk_lt 7 a (fun h => hf (fun z => z.1 (by omega))) (fun h => pk_le b 7 (fun h' => ?_) (fun h' => hf (fun z => z.2.1 (by omega))))
  refine ⟨h3, pk_eq k 0 (fun k0 => pk_eq a b (fun e => nm_r (nI_1 i) (ht ⟨by omega, by omega, fun _ => e, fun z => by omega, fun z => by omega⟩)) (fun e => hf (fun z => e (z.2.2.1 k0)))) (fun k0 => ⟨h3, ?_⟩)⟩
  refine pk_eq k 1 (fun k1 => pk_eq a b (fun e => hf (fun z => z.2.2.2.1 k1 e)) (fun e => nm_r (nI_1 i) (ht ⟨by omega, by omega, fun z => by omega, fun _ => e, fun z => by omega⟩))) (fun k1 => ?_)
  exact pk_lt a b (fun e => nm_r (nI_1 i) (ht ⟨by omega, by omega, fun z => by omega, fun z => by omega, fun _ => e⟩)) (fun e => hf (fun z => absurd (z.2.2.2.2 (by omega)) (by omega)))
theorem tj_y49 {post J : Int32 → Prop} {g : Nat → Nat} {i a k e2 : Nat} (hg : tj_ok g) (hgi : ∀ v, v < 4 → gi v = nI (g v)) (hi : i < 3) (hk : k ≤ 2) (ek : ki i = nI k) (ha : a ≤ 8) (hs : sd i = nI e2) (h12 : e2 < 12)
    (ht : a ≠ 8 ∧ tj_val g e2 ≠ 8 ∧ tj_k1 k a (tj_val g e2) → J (nI (i + 1))) (hf : ¬ (a ≠ 8 ∧ tj_val g e2 ≠ 8 ∧ tj_k1 k a (tj_val g e2)) → post 0) : wY_keeps_49 post J (nI i) (nI a) xc xn xe xd yb ym he ne ki fi sd gi so := by
  have h3 : vp_in (nI i) 3 := vp_in_nI hi (by omega)
  have hv := tj_val_le hg h12
  unfold wY_keeps_49
  rw [nI_clamp (n := i) (by omega), hs]
  refine ⟨h3, pk_le 8 e2 (fun h8 => ?_) (fun h8 => ?_)⟩
  · have es : nI e2 - 8 = nI (e2 - 8) := pk_sub (b := 8) (by omega)
    rw [es, nI_clamp (n := e2 - 8) (by omega), hgi _ (by omega)]
    rw [tj_val_v h8] at ht hf hv
    exact ⟨h3, vp_in_nI (by omega) (by omega), tj_y84 hi hk ek ha hv ht hf⟩
  · rw [tj_val_c h8] at ht hf
    exact ⟨h3, tj_y84 hi hk ek ha (by omega) ht hf⟩
theorem tj_y2k {post : Int32 → Prop} {g ck cf cs : Nat → Nat} {nc n i : Nat} (hg : tj_ok g) (hgi : ∀ v, v < 4 → gi v = nI (g v)) (hnc : nc ≤ 3)
    (hki : ∀ i, i < 3 → ki i = nI (ck i) ∧ ck i ≤ 2 ∧ fi i = nI (cf i) ∧ cf i < 12 ∧ sd i = nI (cs i) ∧ cs i < 12) (hi : i < nc)
    (ht : (tj_val g (cf i) ≠ 8 ∧ tj_val g (cs i) ≠ 8 ∧ tj_k1 (ck i) (tj_val g (cf i)) (tj_val g (cs i))) → wY_keeps_2 post xc xn xe (nI nc) yb ym he ne ki fi sd gi so n (nI (i + 1)))
    (hf : ¬ (tj_val g (cf i) ≠ 8 ∧ tj_val g (cs i) ≠ 8 ∧ tj_k1 (ck i) (tj_val g (cf i)) (tj_val g (cs i))) → post 0) : wY_keeps_2 post xc xn xe (nI nc) yb ym he ne ki fi sd gi so (n + 1) (nI i) := by
  obtain ⟨k1, k2, k3, k4, k5, k6⟩ := hki i (by omega)
  have h3 : vp_in (nI i) 3 := vp_in_nI (by omega) (by omega)
  have hv := tj_val_le hg k4
  refine br_f (nI_ge hi (by omega)) (br_f (nI_ge (b := 3) (by omega) (by decide)) ?_)
  rw [nI_clamp (n := i) (by omega), k3]
  refine ⟨h3, pk_le 8 (cf i) (fun h8 => ?_) (fun h8 => ?_)⟩
  · have es : nI (cf i) - 8 = nI (cf i - 8) := pk_sub (b := 8) (by omega)
    rw [es, nI_clamp (n := cf i - 8) (by omega), hgi _ (by omega)]
    rw [tj_val_v h8] at ht hf hv
    exact ⟨h3, vp_in_nI (by omega) (by omega), tj_y49 hg hgi (by omega) k2 k1 hv k5 k6 ht hf⟩
  · rw [tj_val_c h8] at ht hf
    exact ⟨h3, tj_y49 hg hgi (by omega) k2 k1 (by omega) k5 k6 ht hf⟩
theorem tj_yke {post : Int32 → Prop} {g ck cf cs : Nat → Nat} {nc : Nat} (hg : tj_ok g) (hgi : ∀ v, v < 4 → gi v = nI (g v)) (hnc : nc ≤ 3)
    (hki : ∀ i, i < 3 → ki i = nI (ck i) ∧ ck i ≤ 2 ∧ fi i = nI (cf i) ∧ cf i < 12 ∧ sd i = nI (cs i) ∧ cs i < 12)
    (ht : tj_ke nc ck cf cs g → post 1) (hf : ¬ tj_ke nc ck cf cs g → post 0) : wpY_keeps post (xc, xn, xe, nI nc, yb, ym, he, ne, ki, fi, sd, gi, so) :=
  Exists.intro (nc + 1) (tj_all (W := fun n i => wY_keeps_2 post xc xn xe (nI nc) yb ym he ne ki fi sd gi so n (nI i)) (c := fun i => tj_val g (cf i) ≠ 8 ∧ tj_val g (cs i) ≠ 8 ∧ tj_k1 (ck i) (tj_val g (cf i)) (tj_val g (cs i))) (E := post 0) (A := post 1) nc
    (fun n i hi h1 h0 => tj_y2k hg hgi hnc hki hi h1 h0) (fun n a => br_t (nI_le (Nat.le_refl nc) (by omega)) a) (fun h => ht h) (fun h => hf h))
theorem tj_y2a {post : Int32 → Prop} {g np : Nat → Nat} {nd p s n k : Nat} (hp : p < 1728) (hs : s < 256) (hg : tj_ok g) (hgi : ∀ v, v < 4 → gi v = nI (g v)) (hyb : ∀ i, i < 32 → (bt yb i = true ↔ tj_B nd np i)) (hk : k < 3)
    (ht : (8 ≤ tj_ent p k → tj_B nd np (tj_ent p k - 8) → g (tj_ent p k - 8) = tj_par s k) → wY_agrees_2 post (nI s) xc xn (nI p) xd yb ym he ne ki fi sd gi so n (nI (k + 1)))
    (hf : ¬ (8 ≤ tj_ent p k → tj_B nd np (tj_ent p k - 8) → g (tj_ent p k - 8) = tj_par s k) → post 0) : wY_agrees_2 post (nI s) xc xn (nI p) xd yb ym he ne ki fi sd gi so (n + 1) (nI k) := by
  have e1 := tj_ent_lt (k := k) hp
  have q1 := tj_par_lt (k := k) hs
  refine br_f (nI_ge (b := 3) hk (by decide)) (tj_ye hp hk ?_)
  refine pk_le (tj_ent p k) 7 (fun h7 => nm_r (nI_1 k) (ht (fun z => by omega))) (fun h7 => ?_)
  have es : nI (tj_ent p k) - 8 = nI (tj_ent p k - 8) := pk_sub (b := 8) (by omega)
  have hv := hg (tj_ent p k - 8) (by omega)
  rw [es, nI_clamp (n := tj_ent p k - 8) (by omega), hgi _ (by omega)]
  refine ek_if ((tj_and1_1 _).trans (by rw [tj_sh0 _ (by omega)]; exact hyb _ (by omega))) (fun b => ⟨vp_in_nI (by omega) (by omega), tj_yp hs hk ?_⟩) (fun b => nm_r (nI_1 k) (ht (fun _ z => absurd z b)))
  exact pk_eq (g (tj_ent p k - 8)) (tj_par s k) (fun e => nm_r (nI_1 k) (ht (fun _ _ => e))) (fun e => hf (fun z => e (z (by omega) b)))
theorem tj_yag {post : Int32 → Prop} {g np : Nat → Nat} {nd p s : Nat} (hp : p < 1728) (hs : s < 256) (hg : tj_ok g) (hgi : ∀ v, v < 4 → gi v = nI (g v)) (hyb : ∀ i, i < 32 → (bt yb i = true ↔ tj_B nd np i))
    (ht : (∀ k, k < 3 → 8 ≤ tj_ent p k → tj_B nd np (tj_ent p k - 8) → g (tj_ent p k - 8) = tj_par s k) → post 1)
    (hf : ¬ (∀ k, k < 3 → 8 ≤ tj_ent p k → tj_B nd np (tj_ent p k - 8) → g (tj_ent p k - 8) = tj_par s k) → post 0) : wpY_agrees post (xc, xn, nI p, xd, yb, ym, he, ne, ki, fi, sd, gi, so) (nI s) :=
  Exists.intro 4 (tj_all (W := fun n k => wY_agrees_2 post (nI s) xc xn (nI p) xd yb ym he ne ki fi sd gi so n (nI k)) (c := fun k => 8 ≤ tj_ent p k → tj_B nd np (tj_ent p k - 8) → g (tj_ent p k - 8) = tj_par s k) (E := post 0) (A := post 1) 3
    (fun n k hk h1 h0 => tj_y2a hp hs hg hgi hyb hk h1 h0) (fun n a => br_t (nI_le (a := 3) (b := 3) (by omega) (by omega)) a) ht hf)
def tj_x1 (H : Nat → Prop) (nd : Nat) (np : Nat → Nat) (p : Nat) (f : Nat → Nat) (s : Nat) : Prop := H s ∧ tj_ft p s ∧ ∀ k, k < 3 → 8 ≤ tj_ent p k → tj_B nd np (tj_ent p k - 8) → f (tj_ent p k - 8) = tj_par s k
theorem tj_y2x {post : Int32 → Prop} {H : Nat → Prop} {g np : Nat → Nat} {nd p n s : Nat} (hp : p < 1728) (hg : tj_ok g) (hgi : ∀ v, v < 4 → gi v = nI (g v)) (hyb : ∀ i, i < 32 → (bt yb i = true ↔ tj_B nd np i)) (hhe : ∀ s, s < 256 → (he s = 0 ↔ ¬ H s)) (hs : s < 256)
    (ht : ¬ tj_x1 H nd np p g s → wY_extensible_2 post xc xn (nI p) xd yb ym he ne ki fi sd gi so n (nI (s + 1))) (hf : ¬ ¬ tj_x1 H nd np p g s → post 1) : wY_extensible_2 post xc xn (nI p) xd yb ym he ne ki fi sd gi so (n + 1) (nI s) := by
  refine br_f (nI_ge (b := 256) hs (by decide)) ?_
  rw [nI_clamp (n := s) (by omega)]
  refine ⟨vp_in_nI hs (by omega), ek_if (hhe s hs) (fun h => nm_r (nI_1 s) (ht (fun z => h z.1))) (fun h => ?_)⟩
  refine tj_yft hp hs (fun h1 => br_f (by decide) ?_) (fun h1 => br_t rfl (nm_r (nI_1 s) (ht (fun z => h1 z.2.1))))
  exact tj_yag hp hs hg hgi hyb (fun h2 => br_f (by decide) (hf (fun z => z ⟨Classical.byContradiction h, h1, h2⟩))) (fun h2 => br_t rfl (nm_r (nI_1 s) (ht (fun z => h2 z.2.2))))
theorem tj_yxt {post : Int32 → Prop} {H : Nat → Prop} {g np : Nat → Nat} {nd p : Nat} (hp : p < 1728) (hg : tj_ok g) (hgi : ∀ v, v < 4 → gi v = nI (g v)) (hyb : ∀ i, i < 32 → (bt yb i = true ↔ tj_B nd np i)) (hhe : ∀ s, s < 256 → (he s = 0 ↔ ¬ H s))
    (ht : tj_xt H nd np p g → post 1) (hf : ¬ tj_xt H nd np p g → post 0) : wpY_extensible post (xc, xn, nI p, xd, yb, ym, he, ne, ki, fi, sd, gi, so) :=
  Exists.intro 257 (tj_all (W := fun n s => wY_extensible_2 post xc xn (nI p) xd yb ym he ne ki fi sd gi so n (nI s)) (c := fun s => ¬ tj_x1 H nd np p g s) (E := post 1) (A := post 0) 256
    (fun n s hs h1 h0 => tj_y2x hp hg hgi hyb hhe hs h1 h0) (fun n a => br_t (nI_le (a := 256) (b := 256) (by omega) (by omega)) a) (fun h => hf (fun ⟨s, s1, s2⟩ => h s s1 s2))
    (fun h => ht (Classical.byContradiction fun z => h (fun s s1 s2 => z ⟨s, s1, s2⟩))))
/-- the reference's more: the extra pattern's variables that aren't base ones -/
def tj_MM (nd : Nat) (np : Nat → Nat) (xp : Option Nat) (v : Nat) : Prop := ∃ p, xp = some p ∧ tj_M nd np p v
def tj_may (nd : Nat) (np : Nat → Nat) (xp : Option Nat) (v x : Nat) : Prop := (tj_B nd np v → x < 8) ∧ (¬ tj_B nd np v → (∀ p, xp = some p → ¬ tj_vr p v) → x = 8)
theorem tj_yma {post : Int32 → Prop} {np : Nat → Nat} {xp : Option Nat} {nd v x : Nat} (hv : v < 4) (hx : x < 9) (hyb : ∀ i, i < 32 → (bt yb i = true ↔ tj_B nd np i)) (hym : ∀ i, i < 32 → (bt ym i = true ↔ tj_MM nd np xp i))
    (ht : tj_may nd np xp v x → post 1) (hf : ¬ tj_may nd np xp v x → post 0) : wpY_may post (xc, xn, xe, xd, yb, ym, he, ne, ki, fi, sd, gi, so) (nI v) (nI x) := by
  refine ek_if (d := tj_B nd np v) ((tj_and1_1 _).trans (by rw [tj_sh0 _ (by omega)]; exact hyb _ (by omega))) (fun b => ?_) (fun b => ?_)
  · exact pk_le 8 x (fun h => hf (fun z => absurd (z.1 b) (by omega))) (fun h => ht ⟨fun _ => h, fun z => absurd b z⟩)
  · refine ek_if (d := tj_MM nd np xp v) ((tj_and1_1 _).trans (by rw [tj_sh0 _ (by omega)]; exact hym _ (by omega))) (fun m => ht ⟨fun z => absurd z b, fun _ z => ?_⟩) (fun m => ?_)
    · obtain ⟨p, e, m1⟩ := m
      exact absurd m1.1 (z p e)
    · have nv : ∀ p, xp = some p → ¬ tj_vr p v := fun p e w => m ⟨p, e, w, b⟩
      exact pk_eq x 8 (fun h => ht ⟨fun z => absurd z b, fun _ _ => h⟩) (fun h => hf (fun z => h (z.2 b nv)))
end TJY
end
section
/-! words -/
theorem tj_w0 {x : Int32} : x = 0 ↔ ∀ i, i < 32 → ¬ bt x i = true := by
  constructor
  · intro e i _
    rw [e, b_0]; decide
  · intro h
    apply b_ext
    intro i hi
    rw [b_0]
    cases z : bt x i
    · rfl
    · exact absurd z (h i hi)
theorem tj_we {x y : Int32} : x = y ↔ ∀ i, i < 32 → (bt x i = true ↔ bt y i = true) := by
  constructor
  · intro e i _
    rw [e]
  · intro h
    apply b_ext
    intro i hi
    exact Bool.eq_iff_iff.mpr (h i hi)
theorem tj_MM4 {nd : Nat} {np : Nat → Nat} {xp : Option Nat} {i : Nat} (hx : ∀ p, xp = some p → p < 1728) (h : tj_MM nd np xp i) : i < 4 := by
  obtain ⟨p, e, ⟨k, hk, e2⟩, _⟩ := h
  have := tj_ent_lt (k := k) (hx p e)
  omega
/-- solution, without the bounds of may -/
def tj_s2 (H : Nat → Prop) (nd : Nat) (np : Nat → Nat) (xp : Option Nat) (K : (Nat → Nat) → Prop) (g : Nat → Nat) : Prop :=
  (∀ k, k < nd → tj_ho H g (np k)) ∧ (∀ p, xp = some p → tj_XC H nd np p g) ∧ K g
theorem tj_So_s2 {H : Nat → Prop} {nd : Nat} {np : Nat → Nat} {xp : Option Nat} {K : (Nat → Nat) → Prop} {g : Nat → Nat} :
    tj_So H nd np xp K g ↔ (∀ v, v < 4 → tj_may nd np xp v (g v)) ∧ tj_s2 H nd np xp K g := by
  constructor
  · intro ⟨h1, h2, h3⟩
    exact ⟨fun v hv => ⟨h1 v hv, h2 v hv⟩, h3⟩
  · intro ⟨h1, h3⟩
    exact ⟨fun v hv => (h1 v hv).1, fun v hv => (h1 v hv).2, h3⟩
/-- the marks and the count so far -/
def tj_Iv (S : Nat → Prop) (c0 a c : Nat) (so : Nat → Int32) : Prop := a + tj_cn S c0 = tj_cn S c ∧ (∀ q, q < c → so q = nI (tj_b (S q))) ∧ ∀ q, c ≤ q → q < 6561 → so q = 0
theorem tj_Iv_s {S : Nat → Prop} {c0 a c : Nat} {so : Nat → Int32} (h : tj_Iv S c0 a c so) : tj_Iv S c0 (a + tj_b (S c)) (c + 1) (upd so c (nI (tj_b (S c)))) := by
  obtain ⟨h1, h2, h3⟩ := h
  refine ⟨by rw [tj_cn_s]; omega, fun q hq => ?_, fun q h4 h5 => ?_⟩
  · by_cases e : q = c
    · rw [e, pk_us]
    · rw [pk_un e]; exact h2 q (by omega)
  · rw [pk_un (by omega)]; exact h3 q (by omega) h5
theorem tj_Iv_k {S : Nat → Prop} {c0 a c : Nat} {so : Nat → Int32} (m : Nat) (hm : c + m ≤ 6561) (hn : ∀ q, c ≤ q → q < c + m → ¬ S q) (h : tj_Iv S c0 a c so) : tj_Iv S c0 a (c + m) so := by
  obtain ⟨h1, h2, h3⟩ := h
  refine ⟨by rw [tj_cn_skip c m hn]; exact h1, fun q hq => ?_, fun q h4 h5 => h3 q (by omega) h5⟩
  by_cases e : q < c
  · exact h2 q e
  · rw [tj_bf (hn q (by omega) hq), h3 q (by omega) (by omega)]; rfl
section TJY
variable {xc xn xe xd yb ym : Int32} {he ne ki fi sd gi so : Nat → Int32}
variable {H : Nat → Prop} {np ck cf cs : Nat → Nat} {xp : Option Nat} {nd nc : Nat}
/-! solution -/
theorem tj_y135 {post : Int32 → Prop} {g : Nat → Nat} (hg : tj_ok g) (hgi : ∀ v, v < 4 → gi v = nI (g v)) (hnc : nc ≤ 3)
    (hki : ∀ i, i < 3 → ki i = nI (ck i) ∧ ck i ≤ 2 ∧ fi i = nI (cf i) ∧ cf i < 12 ∧ sd i = nI (cs i) ∧ cs i < 12)
    (ht : tj_ke nc ck cf cs g → post 1) (hf : ¬ tj_ke nc ck cf cs g → post 0) : wY_solution_135 post xc xn xe (nI nc) yb ym he ne ki fi sd gi so := by
  unfold wY_solution_135
  exact tj_yke hg hgi hnc hki (fun h => ⟨by rfl, ht h⟩) (fun h => ⟨by rfl, hf h⟩)
theorem tj_y40e {post : Int32 → Prop} {g : Nat → Nat} {x1 : Int32} {n : Nat} (hg : tj_ok g) (hgi : ∀ v, v < 4 → gi v = nI (g v)) (hnc : nc ≤ 3) (hx : ∀ p, xp = some p → p < 1728)
    (hki : ∀ i, i < 3 → ki i = nI (ck i) ∧ ck i ≤ 2 ∧ fi i = nI (cf i) ∧ cf i < 12 ∧ sd i = nI (cs i) ∧ cs i < 12) (hhe : ∀ s, s < 256 → (he s = 0 ↔ ¬ H s))
    (hyb : ∀ i, i < 32 → (bt yb i = true ↔ tj_B nd np i)) (hym : ∀ i, i < 32 → (bt ym i = true ↔ tj_MM nd np xp i)) (hx1 : ∀ i, i < 32 → (bt x1 i = true ↔ i < 4 ∧ tj_MM nd np xp i ∧ g i = 8))
    (ht : (∀ p, xp = some p → tj_XC H nd np p g) ∧ tj_ke nc ck cf cs g → post 1) (hf : ¬ ((∀ p, xp = some p → tj_XC H nd np p g) ∧ tj_ke nc ck cf cs g) → post 0) :
    wY_solution_40 post xc xn (tj_xI xp) (nI nc) yb ym he ne ki fi sd gi so (n + 1) x1 (nI 4) := by
  refine br_t (nI_le (a := 4) (b := 4) (by omega) (by omega)) ?_
  have h135 : (∀ p, xp = some p → tj_XC H nd np p g) → wY_solution_135 post xc xn (tj_xI xp) (nI nc) yb ym he ne ki fi sd gi so := fun z => tj_y135 hg hgi hnc hki (fun k => ht ⟨z, k⟩) (fun k => hf (fun y => k y.2))
  by_cases hm : ∃ v, v < 4 ∧ tj_MM nd np xp v
  · obtain ⟨v0, hv0, p, ep, m0⟩ := hm
    subst ep
    have hp := hx p rfl
    have eM : ∀ v, tj_MM nd np (some p) v ↔ tj_M nd np p v := fun v => ⟨fun ⟨p', e, m⟩ => by cases e; exact m, fun m => ⟨p, rfl, m⟩⟩
    have hy0 : ¬ ym = 0 := fun e => (tj_w0.mp e) v0 (by omega) ((hym v0 (by omega)).mpr ((eM v0).mpr m0))
    have hA : x1 = 0 ↔ ∀ v, v < 4 → tj_M nd np p v → g v ≠ 8 := by
      rw [tj_w0]
      constructor
      · intro h v hv m e
        exact h v (by omega) ((hx1 v (by omega)).mpr ⟨hv, (eM v).mpr m, e⟩)
      · intro h i hi b
        obtain ⟨b1, b2, b3⟩ := (hx1 i hi).mp b
        exact h i b1 ((eM i).mp b2) b3
    have hZ : x1 = ym ↔ ∀ v, v < 4 → tj_M nd np p v → g v = 8 := by
      rw [tj_we]
      constructor
      · intro h v hv m
        exact ((hx1 v (by omega)).mp ((h v (by omega)).mpr ((hym v (by omega)).mpr ((eM v).mpr m)))).2.2
      · intro h i hi
        rw [hx1 i hi, hym i hi]
        constructor
        · exact fun z => z.2.1
        · intro z
          have i4 := tj_MM4 hx z
          exact ⟨i4, z, h i i4 ((eM i).mp z)⟩
    have hXC : ((∀ v, v < 4 → tj_M nd np p v → g v ≠ 8) ∨ (∀ v, v < 4 → tj_M nd np p v → g v = 8)) → ((∀ v, v < 4 → tj_M nd np p v → g v ≠ 8) → tj_ho H g p) → ((∀ v, v < 4 → tj_M nd np p v → g v = 8) → ¬ tj_xt H nd np p g) → ∀ p', some p = some p' → tj_XC H nd np p' g := by
      intro a b c p' e
      cases e
      exact fun _ => ⟨a, b, c⟩
    have hXC' : (∀ p', some p = some p' → tj_XC H nd np p' g) → ((∀ v, v < 4 → tj_M nd np p v → g v ≠ 8) ∨ (∀ v, v < 4 → tj_M nd np p v → g v = 8)) ∧ ((∀ v, v < 4 → tj_M nd np p v → g v ≠ 8) → tj_ho H g p) ∧ ((∀ v, v < 4 → tj_M nd np p v → g v = 8) → ¬ tj_xt H nd np p g) := fun z => z p rfl ⟨v0, hv0, m0⟩
    have h118 : ((∀ v, v < 4 → tj_M nd np p v → g v ≠ 8) ∨ (∀ v, v < 4 → tj_M nd np p v → g v = 8)) → ((∀ v, v < 4 → tj_M nd np p v → g v ≠ 8) → tj_ho H g p) → wY_solution_118 post x1 xc xn (tj_xI (some p)) (nI nc) yb ym he ne ki fi sd gi so := by
      intro a b
      unfold wY_solution_118
      refine ek_if hZ (fun z => ?_) (fun z => h135 (hXC a b (fun y => absurd y z)))
      exact tj_yxt (p := p) hp hg hgi hyb hhe (fun x => br_f (by decide) (hf (fun y => (hXC' y.1).2.2 z x))) (fun x => br_t rfl (h135 (hXC a b (fun _ => x))))
    have h101 : ((∀ v, v < 4 → tj_M nd np p v → g v ≠ 8) ∨ (∀ v, v < 4 → tj_M nd np p v → g v = 8)) → wY_solution_101 post x1 xc xn (tj_xI (some p)) (nI nc) yb ym he ne ki fi sd gi so := by
      intro a
      unfold wY_solution_101
      refine ek_if hA (fun z => ?_) (fun z => h118 a (fun y => absurd y z))
      exact tj_yho (p := p) hp hg hgi hhe (fun x => br_f (by decide) (h118 a (fun _ => x))) (fun x => br_t rfl (hf (fun y => x ((hXC' y.1).2.1 z))))
    refine br_f hy0 (ek_if hA (fun z => h101 (Or.inl z)) (fun z => ek_if hZ (fun y => h101 (Or.inr y)) (fun y => hf (fun w => (hXC' w.1).1.elim z y))))
  · refine br_t (tj_w0.mpr (fun i hi b => ?_)) (h135 (fun p e => fun ⟨v, hv, m⟩ => absurd ⟨v, hv, p, e, m⟩ hm))
    have m := (hym i hi).mp b
    exact hm ⟨i, tj_MM4 hx m, m⟩
theorem tj_y40 {post : Int32 → Prop} {g : Nat → Nat} (hg : tj_ok g) (hgi : ∀ v, v < 4 → gi v = nI (g v)) (hnc : nc ≤ 3) (hx : ∀ p, xp = some p → p < 1728)
    (hki : ∀ i, i < 3 → ki i = nI (ck i) ∧ ck i ≤ 2 ∧ fi i = nI (cf i) ∧ cf i < 12 ∧ sd i = nI (cs i) ∧ cs i < 12) (hhe : ∀ s, s < 256 → (he s = 0 ↔ ¬ H s))
    (hyb : ∀ i, i < 32 → (bt yb i = true ↔ tj_B nd np i)) (hym : ∀ i, i < 32 → (bt ym i = true ↔ tj_MM nd np xp i))
    (ht : (∀ p, xp = some p → tj_XC H nd np p g) ∧ tj_ke nc ck cf cs g → post 1) (hf : ¬ ((∀ p, xp = some p → tj_XC H nd np p g) ∧ tj_ke nc ck cf cs g) → post 0) :
    ∀ m v (x1 : Int32), v + m = 4 → (∀ i, i < 32 → (bt x1 i = true ↔ i < v ∧ tj_MM nd np xp i ∧ g i = 8)) → wY_solution_40 post xc xn (tj_xI xp) (nI nc) yb ym he ne ki fi sd gi so (m + 1) x1 (nI v) := by
  intro m
  induction m with
  | zero =>
    intro v x1 hv h
    have e : v = 4 := by omega
    subst e
    exact tj_y40e hg hgi hnc hx hki hhe hyb hym h ht hf
  | succ m ih =>
    intro v x1 hv h
    refine br_f (nI_ge (b := 4) (by omega) (by decide)) ?_
    refine ek_if (d := tj_MM nd np xp v) ((tj_and1_1 _).trans (by rw [tj_sh0 _ (by omega)]; exact hym _ (by omega))) (fun b => ⟨vp_in_nI (by omega) (by omega), ?_⟩) (fun b => nm_r (nI_1 v) (ih (v + 1) x1 (by omega) (fun i hi => ?_)))
    · have hv8 := hg v (by omega)
      rw [nI_clamp (n := v) (by omega), hgi v (by omega)]
      refine pk_eq (g v) 8 (fun e => nm_e (nm_r (nI_1 v) (ih (v + 1) _ (by omega) (fun i hi => ?_)))) (fun e => nm_r (nI_1 v) (ih (v + 1) x1 (by omega) (fun i hi => ?_)))
      · rw [tj_set (by omega) hi, h i hi]
        constructor
        · rintro (⟨z1, z2, z3⟩ | z)
          · exact ⟨by omega, z2, z3⟩
          · rw [z]; exact ⟨by omega, b, e⟩
        · intro ⟨z1, z2, z3⟩
          by_cases q : i = v
          · exact Or.inr q
          · exact Or.inl ⟨by omega, z2, z3⟩
      · rw [h i hi]
        constructor
        · intro ⟨z1, z2, z3⟩
          exact ⟨by omega, z2, z3⟩
        · intro ⟨z1, z2, z3⟩
          by_cases q : i = v
          · rw [q] at z3; exact absurd z3 e
          · exact ⟨by omega, z2, z3⟩
    · rw [h i hi]
      constructor
      · intro ⟨z1, z2, z3⟩
        exact ⟨by omega, z2, z3⟩
      · intro ⟨z1, z2, z3⟩
        by_cases q : i = v
        · rw [q] at z2; exact absurd z2 b
        · exact ⟨by omega, z2, z3⟩
theorem tj_yso {post : Int32 → Prop} {g : Nat → Nat} (hg : tj_ok g) (hgi : ∀ v, v < 4 → gi v = nI (g v)) (hnd : nd ≤ 4) (hnc : nc ≤ 3) (hx : ∀ p, xp = some p → p < 1728) (hne : ∀ k, k < 4 → ne k = nI (np k) ∧ np k < 1728)
    (hki : ∀ i, i < 3 → ki i = nI (ck i) ∧ ck i ≤ 2 ∧ fi i = nI (cf i) ∧ cf i < 12 ∧ sd i = nI (cs i) ∧ cs i < 12) (hhe : ∀ s, s < 256 → (he s = 0 ↔ ¬ H s))
    (hyb : ∀ i, i < 32 → (bt yb i = true ↔ tj_B nd np i)) (hym : ∀ i, i < 32 → (bt ym i = true ↔ tj_MM nd np xp i))
    (ht : tj_s2 H nd np xp (tj_ke nc ck cf cs) g → post 1) (hf : ¬ tj_s2 H nd np xp (tj_ke nc ck cf cs) g → post 0) : wpY_solution post (xc, nI nd, tj_xI xp, nI nc, yb, ym, he, ne, ki, fi, sd, gi, so) := by
  refine Exists.intro (nd + 1) ?_
  refine tj_all (W := fun n k => wY_solution_2 post xc (nI nd) (tj_xI xp) (nI nc) yb ym he ne ki fi sd gi so n (nI k)) (c := fun k => tj_ho H g (np k)) (E := post 0) (A := ∃ n, wY_solution_40 post xc (nI nd) (tj_xI xp) (nI nc) yb ym he ne ki fi sd gi so n 0 0) nd
    (fun n k hk h1 h0 => ?_) (fun n a => br_t (nI_le (Nat.le_refl nd) (by omega)) a) (fun h => ⟨5, ?_⟩) (fun h => hf (fun z => h z.1))
  · refine br_f (nI_ge hk (by omega)) (br_f (nI_ge (b := 4) (by omega) (by decide)) ⟨vp_in_nI (by omega) (by omega), ?_⟩)
    rw [nI_clamp (n := k) (by omega), (hne k (by omega)).1]
    exact tj_yho (hne k (by omega)).2 hg hgi hhe (fun x => br_f (by decide) (nm_r (nI_1 k) (h1 x))) (fun x => br_t rfl (h0 x))
  · exact tj_y40 hg hgi hnc hx hki hhe hyb hym (fun z => ht ⟨h, z⟩) (fun z => hf (fun y => z y.2)) 4 0 0 rfl (fun i _ => ⟨fun z => absurd z (by rw [b_0]; decide), fun z => absurd z.1 (by omega)⟩)
/-! tryLast -/
theorem tj_y90 {post : Int32 → SY → Prop} {J5 J15 : Int32 → Int32 → (Nat → Int32) → (Nat → Int32) → (Nat → Int32) → (Nat → Int32) → (Nat → Int32) → (Nat → Int32) → (Nat → Int32) → Prop} {x y z w a : Nat} {x6 : Int32} {P : Prop}
    (hx : x < 9) (hy : y < 9) (hz : z < 9) (hw : w < 9) (e6 : x6 = nI (tj_b P)) (h : J15 (nI (a + tj_b P)) (nI (w + 1)) he ne ki fi sd gi (upd so (729 * x + 81 * y + 9 * z + w) (nI (tj_b P)))) :
    wY_tryLast_90 post J5 J15 (nI x) (nI y) (nI a) (nI z) (nI w) x6 xc xn xe xd yb ym he ne ki fi sd gi so := by
  have e : 729 * nI x + 81 * nI y + 9 * nI z + nI w = nI (729 * x + 81 * y + 9 * z + w) := by
    rw [show (729 : Int32) * nI x = nI (729 * x) from pk_mul 729 x, show (81 : Int32) * nI y = nI (81 * y) from pk_mul 81 y, show (9 : Int32) * nI z = nI (9 * z) from pk_mul 9 z, nI_add, nI_add, nI_add]
  unfold wY_tryLast_90
  rw [e, nI_clamp (n := 729 * x + 81 * y + 9 * z + w) (by omega), e6]
  by_cases p : P
  · rw [tj_bt p] at h ⊢
    refine ⟨vp_in_nI (by omega) (by omega), nm_r (e' := upd so (729 * x + 81 * y + 9 * z + w) (nI 1)) ?_ (br_f (by decide) (nm_r (nI_1 a) (nm_r (nI_1 w) h)))⟩
    rw [show vp_nar .boolean (nI 1) = nI 1 from tj_nb1]
  · rw [tj_bf p] at h ⊢
    refine ⟨vp_in_nI (by omega) (by omega), nm_r (e' := upd so (729 * x + 81 * y + 9 * z + w) (nI 0)) ?_ (br_t rfl (nm_r (nI_1 w) h))⟩
    rw [show vp_nar .boolean (nI 0) = nI 0 from tj_nb0]
theorem tj_d4 {x y z w v : Nat} (hy : y < 9) (hz : z < 9) (hw : w < 9) (hv : v < 4) : tj_dig (729 * x + 81 * y + 9 * z + w) v = if v = 0 then x else if v = 1 then y else if v = 2 then z else w := by
  obtain rfl | rfl | rfl | rfl : v = 0 ∨ v = 1 ∨ v = 2 ∨ v = 3 := by omega
  · show (729 * x + 81 * y + 9 * z + w) / 729 = x
    omega
  · show (729 * x + 81 * y + 9 * z + w) / 81 % 9 = y
    omega
  · show (729 * x + 81 * y + 9 * z + w) / 9 % 9 = z
    omega
  · show (729 * x + 81 * y + 9 * z + w) % 9 = w
    omega
theorem tj_gi4 {gi : Nat → Int32} {x y z w : Nat} (hy : y < 9) (hz : z < 9) (hw : w < 9) : ∀ v, v < 4 → upd (upd (upd (upd gi 0 (nI x)) 1 (nI y)) 2 (nI z)) 3 (nI w) v = nI (tj_dig (729 * x + 81 * y + 9 * z + w) v) := by
  intro v hv
  rw [tj_d4 hy hz hw hv]
  obtain rfl | rfl | rfl | rfl : v = 0 ∨ v = 1 ∨ v = 2 ∨ v = 3 := by omega
  · rw [pk_un (by omega), pk_un (by omega), pk_un (by omega), pk_us]; rfl
  · rw [pk_un (by omega), pk_un (by omega), pk_us]; rfl
  · rw [pk_un (by omega), pk_us]; rfl
  · rw [pk_us]; rfl
/-- the solutions by their codes -/
def tj_SS (H : Nat → Prop) (nd : Nat) (np : Nat → Nat) (xp : Option Nat) (nc : Nat) (ck cf cs : Nat → Nat) (q : Nat) : Prop := tj_So H nd np xp (tj_ke nc ck cf cs) (tj_dig q)
theorem tj_y15 {post : Int32 → SY → Prop} {J5 : Int32 → Int32 → (Nat → Int32) → (Nat → Int32) → (Nat → Int32) → (Nat → Int32) → (Nat → Int32) → (Nat → Int32) → (Nat → Int32) → Prop} {x y z c0 : Nat} (hx9 : x < 9) (hy9 : y < 9) (hz9 : z < 9)
    (hm0 : tj_may nd np xp 0 x) (hm1 : tj_may nd np xp 1 y) (hnd : nd ≤ 4) (hnc : nc ≤ 3) (hx : ∀ p, xp = some p → p < 1728) (hne : ∀ k, k < 4 → ne k = nI (np k) ∧ np k < 1728)
    (hki : ∀ i, i < 3 → ki i = nI (ck i) ∧ ck i ≤ 2 ∧ fi i = nI (cf i) ∧ cf i < 12 ∧ sd i = nI (cs i) ∧ cs i < 12) (hhe : ∀ s, s < 256 → (he s = 0 ↔ ¬ H s))
    (hyb : ∀ i, i < 32 → (bt yb i = true ↔ tj_B nd np i)) (hym : ∀ i, i < 32 → (bt ym i = true ↔ tj_MM nd np xp i))
    (hJ : ∀ a (gi so : Nat → Int32), tj_Iv (tj_SS H nd np xp nc ck cf cs) c0 a (729 * x + 81 * y + 9 * z + 9) so → J5 (nI a) (nI (z + 1)) he ne ki fi sd gi so) :
    ∀ m w a (gi so : Nat → Int32), w + m = 9 → tj_Iv (tj_SS H nd np xp nc ck cf cs) c0 a (729 * x + 81 * y + 9 * z + w) so → wY_tryLast_15 post J5 (nI x) (nI y) (nI z) xc (nI nd) (tj_xI xp) (nI nc) yb ym (m + 1) (nI a) (nI w) he ne ki fi sd gi so := by
  intro m
  induction m with
  | zero =>
    intro w a gi so hw hI
    have e : w = 9 := by omega
    subst e
    exact br_t (nI_le (a := 9) (b := 9) (by omega) (by omega)) (nm_r (nI_1 z) (hJ a gi so hI))
  | succ m ih =>
    intro w a gi so hw hI
    have hw9 : w < 9 := by omega
    have hD : ∀ v, v < 4 → tj_dig (729 * x + 81 * y + 9 * z + w) v = if v = 0 then x else if v = 1 then y else if v = 2 then z else w := fun v hv => tj_d4 hy9 hz9 hw9 hv
    have hI2 := tj_Iv_s hI
    rw [show 729 * x + 81 * y + 9 * z + w + 1 = 729 * x + 81 * y + 9 * z + (w + 1) from by omega] at hI2
    have hno : ¬ tj_SS H nd np xp nc ck cf cs (729 * x + 81 * y + 9 * z + w) → wY_tryLast_46 post J5 (wY_tryLast_15 post J5 (nI x) (nI y) (nI z) xc (nI nd) (tj_xI xp) (nI nc) yb ym (m + 1)) (nI x) (nI y) (nI a) (nI z) (nI w) xc (nI nd) (tj_xI xp) (nI nc) yb ym he ne ki fi sd gi so := by
      intro h
      unfold wY_tryLast_46 wY_tryLast_47
      exact br_t rfl (tj_y90 (P := tj_SS H nd np xp nc ck cf cs (729 * x + 81 * y + 9 * z + w)) hx9 hy9 hz9 hw9 (by rw [tj_bf h]; rfl) (ih (w + 1) _ gi _ (by omega) hI2))
    refine br_f (nI_ge (b := 9) hw9 (by decide)) ?_
    refine tj_yma (v := 2) (x := z) (by omega) hz9 hyb hym (fun m2 => br_f (by decide) ?_) (fun m2 => br_t rfl (hno (fun h => m2 ?_)))
    · refine tj_yma (v := 3) (x := w) (by omega) hw9 hyb hym (fun m3 => br_f (by decide) ?_) (fun m3 => br_t rfl (hno (fun h => m3 ?_)))
      · have hq : 729 * x + 81 * y + 9 * z + w < 6561 := by omega
        have hS : tj_SS H nd np xp nc ck cf cs (729 * x + 81 * y + 9 * z + w) ↔ tj_s2 H nd np xp (tj_ke nc ck cf cs) (tj_dig (729 * x + 81 * y + 9 * z + w)) := by
          unfold tj_SS
          rw [tj_So_s2]
          refine ⟨fun h => h.2, fun h => ⟨fun v hv => ?_, h⟩⟩
          rw [hD v hv]
          obtain rfl | rfl | rfl | rfl : v = 0 ∨ v = 1 ∨ v = 2 ∨ v = 3 := by omega
          · exact hm0
          · exact hm1
          · exact m2
          · exact m3
        unfold wY_tryLast_47
        refine br_f (by decide) (nm_e (nm_e (nm_e (nm_e ?_))))
        refine tj_yso (tj_ok_dig hq) (tj_gi4 hy9 hz9 hw9) hnd hnc hx hne hki hhe hyb hym (fun h => ?_) (fun h => ?_)
        · exact tj_y90 (P := tj_SS H nd np xp nc ck cf cs (729 * x + 81 * y + 9 * z + w)) hx9 hy9 hz9 hw9 (by rw [tj_bt (hS.mpr h)]; rfl) (ih (w + 1) _ _ _ (by omega) hI2)
        · exact tj_y90 (P := tj_SS H nd np xp nc ck cf cs (729 * x + 81 * y + 9 * z + w)) hx9 hy9 hz9 hw9 (by rw [tj_bf (fun z => h (hS.mp z))]; rfl) (ih (w + 1) _ _ _ (by omega) hI2)
      · have := (tj_So_s2.mp h).1 3 (by omega)
        rw [hD 3 (by omega)] at this
        exact this
    · have := (tj_So_s2.mp h).1 2 (by omega)
      rw [hD 2 (by omega)] at this
      exact this
theorem tj_y5 {post : Int32 → SY → Prop} {x y : Nat} (hx9 : x < 9) (hy9 : y < 9)
    (hm0 : tj_may nd np xp 0 x) (hm1 : tj_may nd np xp 1 y) (hnd : nd ≤ 4) (hnc : nc ≤ 3) (hx : ∀ p, xp = some p → p < 1728) (hne : ∀ k, k < 4 → ne k = nI (np k) ∧ np k < 1728)
    (hki : ∀ i, i < 3 → ki i = nI (ck i) ∧ ck i ≤ 2 ∧ fi i = nI (cf i) ∧ cf i < 12 ∧ sd i = nI (cs i) ∧ cs i < 12) (hhe : ∀ s, s < 256 → (he s = 0 ↔ ¬ H s))
    (hyb : ∀ i, i < 32 → (bt yb i = true ↔ tj_B nd np i)) (hym : ∀ i, i < 32 → (bt ym i = true ↔ tj_MM nd np xp i))
    (hK : ∀ a (gi so : Nat → Int32), tj_Iv (tj_SS H nd np xp nc ck cf cs) (729 * x + 81 * y) a (729 * x + 81 * y + 81) so → post (nI a) (xc, nI nd, tj_xI xp, nI nc, yb, ym, he, ne, ki, fi, sd, gi, so)) :
    ∀ m z a (gi so : Nat → Int32), z + m = 9 → tj_Iv (tj_SS H nd np xp nc ck cf cs) (729 * x + 81 * y) a (729 * x + 81 * y + 9 * z) so → wY_tryLast_5 post (nI x) (nI y) xc (nI nd) (tj_xI xp) (nI nc) yb ym (m + 1) (nI a) (nI z) he ne ki fi sd gi so := by
  intro m
  induction m with
  | zero =>
    intro z a gi so hz hI
    have e : z = 9 := by omega
    subst e
    exact br_t (nI_le (a := 9) (b := 9) (by omega) (by omega)) (hK a gi so hI)
  | succ m ih =>
    intro z a gi so hz hI
    refine br_f (nI_ge (b := 9) (by omega) (by decide)) ⟨10, ?_⟩
    exact tj_y15 hx9 hy9 (by omega) hm0 hm1 hnd hnc hx hne hki hhe hyb hym (fun a' gi' so' h => ih (z + 1) a' gi' so' (by omega) (by rw [show 729 * x + 81 * y + 9 * (z + 1) = 729 * x + 81 * y + 9 * z + 9 from by omega]; exact h)) 9 0 a gi so (by omega) hI
/-! work -/
theorem tj_Iv_0 {S : Nat → Prop} {a c : Nat} {so : Nat → Int32} (h : tj_Iv S 0 a c so) : tj_Iv S c 0 c so := ⟨Nat.zero_add _, h.2⟩
theorem tj_Iv_a {S : Nat → Prop} {a a' c c' : Nat} {so so' : Nat → Int32} (h : tj_Iv S 0 a c so) (h' : tj_Iv S c a' c' so') : tj_Iv S 0 (a + a') c' so' := by
  refine ⟨?_, h'.2⟩
  have e : tj_cn S 0 = 0 := rfl
  have h1 := h.1
  have h2 := h'.1
  omega
theorem tj_nS {q v x : Nat} (hv : v < 4) (e : tj_dig q v = x) (h : ¬ tj_may nd np xp v x) : ¬ tj_SS H nd np xp nc ck cf cs q := by
  intro z
  have := (tj_So_s2.mp z).1 v hv
  rw [e] at this
  exact h this
theorem tj_y109 {post : Int32 → SY → Prop} {J : Int32 → Int32 → Int32 → Int32 → Int32 → Int32 → Int32 → Int32 → (Nat → Int32) → (Nat → Int32) → (Nat → Int32) → (Nat → Int32) → (Nat → Int32) → (Nat → Int32) → (Nat → Int32) → Prop} {x : Nat} (hx9 : x < 9)
    (hnd : nd ≤ 4) (hnc : nc ≤ 3) (hx : ∀ p, xp = some p → p < 1728) (hne : ∀ k, k < 4 → ne k = nI (np k) ∧ np k < 1728)
    (hki : ∀ i, i < 3 → ki i = nI (ck i) ∧ ck i ≤ 2 ∧ fi i = nI (cf i) ∧ cf i < 12 ∧ sd i = nI (cs i) ∧ cs i < 12) (hhe : ∀ s, s < 256 → (he s = 0 ↔ ¬ H s))
    (hyb : ∀ i, i < 32 → (bt yb i = true ↔ tj_B nd np i)) (hym : ∀ i, i < 32 → (bt ym i = true ↔ tj_MM nd np xp i))
    (hJ : ∀ a (gi so : Nat → Int32), tj_Iv (tj_SS H nd np xp nc ck cf cs) 0 a (729 * x + 729) so → J (nI a) (nI (x + 1)) xc (nI nd) (tj_xI xp) (nI nc) yb ym he ne ki fi sd gi so) :
    ∀ m y a (gi so : Nat → Int32), y + m = 9 → tj_Iv (tj_SS H nd np xp nc ck cf cs) 0 a (729 * x + 81 * y) so → wY_work_109 post J (nI x) (m + 1) (nI a) (nI y) xc (nI nd) (tj_xI xp) (nI nc) yb ym he ne ki fi sd gi so := by
  intro m
  induction m with
  | zero =>
    intro y a gi so hy hI
    have e : y = 9 := by omega
    subst e
    exact br_t (nI_le (a := 9) (b := 9) (by omega) (by omega)) (nm_r (nI_1 x) (hJ a gi so hI))
  | succ m ih =>
    intro y a gi so hy hI
    have hy9 : y < 9 := by omega
    have e81 : 729 * x + 81 * (y + 1) = 729 * x + 81 * y + 81 := by omega
    have skip : (∀ q, 729 * x + 81 * y ≤ q → q < 729 * x + 81 * y + 81 → ¬ tj_SS H nd np xp nc ck cf cs q) → wY_work_109 post J (nI x) (m + 1) (nI a) (nI (y + 1)) xc (nI nd) (tj_xI xp) (nI nc) yb ym he ne ki fi sd gi so :=
      fun h => ih (y + 1) a gi so (by omega) (by rw [e81]; exact tj_Iv_k 81 (by omega) h hI)
    have hd0 : ∀ q, 729 * x + 81 * y ≤ q → q < 729 * x + 81 * y + 81 → tj_dig q 0 = x := by
      intro q h1 h2
      show q / 729 = x
      omega
    have hd1 : ∀ q, 729 * x + 81 * y ≤ q → q < 729 * x + 81 * y + 81 → tj_dig q 1 = y := by
      intro q h1 h2
      show q / 81 % 9 = y
      omega
    refine br_f (nI_ge (b := 9) hy9 (by decide)) ?_
    refine tj_yma (v := 0) (x := x) (by omega) hx9 hyb hym (fun m0 => br_f (by decide) ?_) (fun m0 => br_t rfl (nm_r (nI_1 y) (skip (fun q h1 h2 => tj_nS (v := 0) (by omega) (hd0 q h1 h2) m0))))
    refine tj_yma (v := 1) (x := y) (by omega) hy9 hyb hym (fun m1 => br_f (by decide) ?_) (fun m1 => br_t rfl (nm_r (nI_1 y) (skip (fun q h1 h2 => tj_nS (v := 1) (by omega) (hd1 q h1 h2) m1))))
    refine Exists.intro 10 ?_
    exact tj_y5 hx9 hy9 m0 m1 hnd hnc hx hne hki hhe hyb hym (fun a' gi' so' h => nm_r (nI_add a a') (nm_r (nI_1 y) (ih (y + 1) (a + a') gi' so' (by omega) (by rw [e81]; exact tj_Iv_a hI h)))) 9 0 0 gi so (by omega) (tj_Iv_0 hI)
theorem tj_y101 {post : Int32 → SY → Prop}
    (hnd : nd ≤ 4) (hnc : nc ≤ 3) (hx : ∀ p, xp = some p → p < 1728) (hne : ∀ k, k < 4 → ne k = nI (np k) ∧ np k < 1728)
    (hki : ∀ i, i < 3 → ki i = nI (ck i) ∧ ck i ≤ 2 ∧ fi i = nI (cf i) ∧ cf i < 12 ∧ sd i = nI (cs i) ∧ cs i < 12) (hhe : ∀ s, s < 256 → (he s = 0 ↔ ¬ H s))
    (hyb : ∀ i, i < 32 → (bt yb i = true ↔ tj_B nd np i)) (hym : ∀ i, i < 32 → (bt ym i = true ↔ tj_MM nd np xp i))
    (hK : ∀ a (gi so : Nat → Int32), tj_Iv (tj_SS H nd np xp nc ck cf cs) 0 a 6561 so → post (nI a) (xc, nI nd, tj_xI xp, nI nc, yb, ym, he, ne, ki, fi, sd, gi, so)) :
    ∀ m x a (gi so : Nat → Int32), x + m = 9 → tj_Iv (tj_SS H nd np xp nc ck cf cs) 0 a (729 * x) so → wY_work_101 post (m + 1) (nI a) (nI x) xc (nI nd) (tj_xI xp) (nI nc) yb ym he ne ki fi sd gi so := by
  intro m
  induction m with
  | zero =>
    intro x a gi so hxm hI
    have e : x = 9 := by omega
    subst e
    exact br_t (nI_le (a := 9) (b := 9) (by omega) (by omega)) (hK a gi so hI)
  | succ m ih =>
    intro x a gi so hxm hI
    refine br_f (nI_ge (b := 9) (by omega) (by decide)) ⟨10, ?_⟩
    exact tj_y109 (by omega) hnd hnc hx hne hki hhe hyb hym (fun a' gi' so' h => ih (x + 1) a' gi' so' (by omega) (by rw [show 729 * (x + 1) = 729 * x + 729 from by omega]; exact h)) 9 0 a gi so (by omega) hI
theorem tj_y77 {post : Int32 → SY → Prop}
    (hnd : nd ≤ 4) (hnc : nc ≤ 3) (hx : ∀ p, xp = some p → p < 1728) (hne : ∀ k, k < 4 → ne k = nI (np k) ∧ np k < 1728)
    (hki : ∀ i, i < 3 → ki i = nI (ck i) ∧ ck i ≤ 2 ∧ fi i = nI (cf i) ∧ cf i < 12 ∧ sd i = nI (cs i) ∧ cs i < 12) (hhe : ∀ s, s < 256 → (he s = 0 ↔ ¬ H s))
    (hyb : ∀ i, i < 32 → (bt yb i = true ↔ tj_B nd np i)) (hym : ∀ i, i < 32 → (bt ym i = true ↔ tj_MM nd np xp i))
    (hK : ∀ a (gi so : Nat → Int32), tj_Iv (tj_SS H nd np xp nc ck cf cs) 0 a 6561 so → post (nI a) (xc, nI nd, tj_xI xp, nI nc, yb, ym, he, ne, ki, fi, sd, gi, so)) :
    ∀ m v (so : Nat → Int32), v + m = 6561 → (∀ i, i < v → so i = 0) → wY_work_77 post xc (nI nd) (tj_xI xp) (nI nc) yb ym (m + 1) (nI v) he ne ki fi sd gi so := by
  intro m
  induction m with
  | zero =>
    intro v so hv h
    refine br_t (nI_le (a := 6561) (by omega) (by omega)) ⟨10, ?_⟩
    exact tj_y101 hnd hnc hx hne hki hhe hyb hym hK 9 0 0 gi so (by omega) ⟨rfl, fun q hq => absurd hq (by omega), fun q _ hq => h q (by omega)⟩
  | succ m ih =>
    intro v so hv h
    refine br_f (nI_ge (b := 6561) (by omega) (by decide)) ⟨vp_in_nI (by omega) (by omega), nm_r (e' := upd so v 0) (by rw [nI_clamp (by omega), tj_nb0]) (nm_r (nI_1 v) (ih (v + 1) _ (by omega) (fun i hi => ?_)))⟩
    by_cases z : i = v
    · rw [z, pk_us]
    · rw [pk_un z]; exact h i (by omega)
theorem tj_y45 {post : Int32 → SY → Prop}
    (hnd : nd ≤ 4) (hnc : nc ≤ 3) (hx : ∀ p, xp = some p → p < 1728) (hne : ∀ k, k < 4 → ne k = nI (np k) ∧ np k < 1728)
    (hki : ∀ i, i < 3 → ki i = nI (ck i) ∧ ck i ≤ 2 ∧ fi i = nI (cf i) ∧ cf i < 12 ∧ sd i = nI (cs i) ∧ cs i < 12) (hhe : ∀ s, s < 256 → (he s = 0 ↔ ¬ H s))
    (hyb : ∀ i, i < 32 → (bt yb i = true ↔ tj_B nd np i))
    (hK : ∀ a (ym : Int32) (gi so : Nat → Int32), tj_Iv (tj_SS H nd np xp nc ck cf cs) 0 a 6561 so → post (nI a) (xc, nI nd, tj_xI xp, nI nc, yb, ym, he, ne, ki, fi, sd, gi, so)) :
    wY_work_45 post xc (nI nd) (tj_xI xp) (nI nc) yb ym he ne ki fi sd gi so := by
  unfold wY_work_45
  cases xp with
  | none =>
    refine br_f (by decide) ⟨6562, ?_⟩
    refine tj_y77 hnd hnc hx hne hki hhe hyb (fun i hi => ?_) (fun a gi so h => hK a 0 gi so h) 6561 0 so (by omega) (fun i hi => absurd hi (by omega))
    rw [b_0]
    exact ⟨fun z => absurd z (by decide), fun ⟨p, e, _⟩ => (nomatch e)⟩
  | some p =>
    have hp := hx p rfl
    refine br_t (nI_pos' (n := p) (by omega)) ?_
    refine tj_yvr (p := p) hp (fun r hr => nm_e ⟨6562, ?_⟩)
    refine tj_y77 hnd hnc hx hne hki hhe hyb (fun i hi => ?_) (fun a gi so h => hK a _ gi so h) 6561 0 so (by omega) (fun i hi => absurd hi (by omega))
    rw [b_and, b_xor, b_m1 i hi, Bool.and_eq_true, hr i hi]
    have q := hyb i hi
    constructor
    · intro ⟨z1, z2⟩
      refine ⟨p, rfl, z1, fun b => ?_⟩
      rw [q.mpr b] at z2
      exact absurd z2 (by decide)
    · intro ⟨p', e, z1, z2⟩
      cases e
      refine ⟨z1, ?_⟩
      cases w : bt yb i
      · rfl
      · exact absurd (q.mp w) z2
theorem tj_y7 {post : Int32 → SY → Prop}
    (hnd : nd ≤ 4) (hnc : nc ≤ 3) (hx : ∀ p, xp = some p → p < 1728) (hne : ∀ k, k < 4 → ne k = nI (np k) ∧ np k < 1728)
    (hki : ∀ i, i < 3 → ki i = nI (ck i) ∧ ck i ≤ 2 ∧ fi i = nI (cf i) ∧ cf i < 12 ∧ sd i = nI (cs i) ∧ cs i < 12) (hhe : ∀ s, s < 256 → (he s = 0 ↔ ¬ H s))
    (hK : ∀ a (yb ym : Int32) (gi so : Nat → Int32), tj_Iv (tj_SS H nd np xp nc ck cf cs) 0 a 6561 so → post (nI a) (xc, nI nd, tj_xI xp, nI nc, yb, ym, he, ne, ki, fi, sd, gi, so)) :
    ∀ m k (yb : Int32), k + m = nd → (∀ i, i < 32 → (bt yb i = true ↔ ∃ j, j < k ∧ tj_vr (np j) i)) → wY_work_7 post xc (nI nd) (tj_xI xp) (nI nc) ym he ne ki fi sd gi so (m + 1) (nI k) yb := by
  intro m
  induction m with
  | zero =>
    intro k yb hk h
    have e : k = nd := by omega
    subst e
    exact br_t (nI_le (Nat.le_refl k) (by omega)) (tj_y45 hnd hnc hx hne hki hhe h (fun a ym gi so h => hK a yb ym gi so h))
  | succ m ih =>
    intro k yb hk h
    refine br_f (nI_ge (by omega) (by omega)) (br_f (nI_ge (b := 4) (by omega) (by decide)) ⟨vp_in_nI (by omega) (by omega), ?_⟩)
    rw [nI_clamp (n := k) (by omega), (hne k (by omega)).1]
    refine tj_yvr (hne k (by omega)).2 (fun r hr => nm_e (nm_r (nI_1 k) (ih (k + 1) _ (by omega) (fun i hi => ?_))))
    rw [b_or, Bool.or_eq_true, h i hi, hr i hi]
    constructor
    · rintro (⟨j, j1, j2⟩ | z)
      · exact ⟨j, by omega, j2⟩
      · exact ⟨k, by omega, z⟩
    · intro ⟨j, j1, j2⟩
      by_cases e : j = k
      · rw [e] at j2; exact Or.inr j2
      · exact Or.inl ⟨j, by omega, j2⟩
theorem tj_ywk {post : Int32 → SY → Prop}
    (hnd : nd ≤ 4) (hnc : nc ≤ 3) (hx : ∀ p, xp = some p → p < 1728) (hne : ∀ k, k < 4 → ne k = nI (np k) ∧ np k < 1728)
    (hki : ∀ i, i < 3 → ki i = nI (ck i) ∧ ck i ≤ 2 ∧ fi i = nI (cf i) ∧ cf i < 12 ∧ sd i = nI (cs i) ∧ cs i < 12) (hhe : ∀ s, s < 256 → (he s = 0 ↔ ¬ H s))
    (hK : ∀ (yb ym : Int32) (gi so : Nat → Int32), (∀ q, q < 6561 → so q = nI (tj_b (tj_SS H nd np xp nc ck cf cs q))) → post (nI (tj_cn (tj_SS H nd np xp nc ck cf cs) 6561)) (xc, nI nd, tj_xI xp, nI nc, yb, ym, he, ne, ki, fi, sd, gi, so)) :
    wpY_work post (xc, nI nd, tj_xI xp, nI nc, yb, ym, he, ne, ki, fi, sd, gi, so) := by
  refine Exists.intro (nd + 1) ?_
  refine tj_y7 hnd hnc hx hne hki hhe (fun a yb ym gi so h => ?_) nd 0 0 (by omega) (fun i _ => ⟨fun z => absurd z (by rw [b_0]; decide), fun ⟨j, j1, _⟩ => absurd j1 (by omega)⟩)
  have e : a = tj_cn (tj_SS H nd np xp nc ck cf cs) 6561 := h.1
  rw [e]
  exact hK yb ym gi so h.2.1
end TJY
end
section
/-! range checks -/
theorem tj_ge0 {x : Int32} {n : Nat} (h : nI n ≤ x) (hn : n < 2 ^ 31) : ¬ x < 0 := by
  rw [Int32.le_iff_toInt_le, nI_toInt hn] at h
  rw [Int32.lt_iff_toInt_lt, show (0 : Int32).toInt = 0 from by decide]
  omega
theorem tj_geM {x : Int32} {n m : Nat} (h : nI n ≤ x) (hm : m < n) (hn : n < 2 ^ 31) : nI m < x := by
  rw [Int32.le_iff_toInt_le, nI_toInt hn] at h
  rw [Int32.lt_iff_toInt_lt, nI_toInt (by omega)]
  omega
section TJY
variable {xc xn xe xd yb ym : Int32} {he ne ki fi sd gi so : Nat → Int32}
theorem tj_xSn {post : Int32 → Prop} {x : Int32} (h : x < 0 ∨ nI 256 ≤ x) (p : post 0) : wpX_isStatement post x := by
  rcases h with h | h
  · exact br_t h p
  · exact br_f (tj_ge0 h (by decide)) (br_t (tj_geM (m := 255) h (by decide) (by decide)) p)
theorem tj_xSy {post : Int32 → Prop} {s : Nat} (hs : s < 256) (p : post 1) : wpX_isStatement post (nI s) :=
  br_f (nI_pos (by omega)) (br_f (nI_nlt (b := s) (a := 255) (by omega) (by omega)) p)
theorem tj_ySn {post : Int32 → Prop} {x : Int32} (h : x < 0 ∨ nI 256 ≤ x) (p : post 1) : wpY_badStatement post (xc, xn, xe, xd, yb, ym, he, ne, ki, fi, sd, gi, so) x := by
  rcases h with h | h
  · exact br_t h p
  · exact br_f (tj_ge0 h (by decide)) (br_f (Int32.not_le.mpr (tj_geM (m := 255) h (by decide) (by decide))) p)
theorem tj_ySy {post : Int32 → Prop} {s : Nat} (hs : s < 256) (p : post 0) : wpY_badStatement post (xc, xn, xe, xd, yb, ym, he, ne, ki, fi, sd, gi, so) (nI s) :=
  br_f (nI_pos (by omega)) (br_t (nI_le (b := 255) (by omega) (by omega)) p)
theorem tj_xPn {post : Int32 → Prop} {x : Int32} (h : x < 0 ∨ nI 1728 ≤ x) (p : post 0) : wpX_isPattern post x := by
  rcases h with h | h
  · exact br_t h p
  · exact br_f (tj_ge0 h (by decide)) (br_t (tj_geM (m := 1727) h (by decide) (by decide)) p)
theorem tj_xPy {post : Int32 → Prop} {s : Nat} (hs : s < 1728) (p : post 1) : wpX_isPattern post (nI s) :=
  br_f (nI_pos (by omega)) (br_f (nI_nlt (b := s) (a := 1727) (by omega) (by omega)) p)
theorem tj_yPn {post : Int32 → Prop} {x : Int32} (h : x < 0 ∨ nI 1728 ≤ x) (p : post 1) : wpY_badPattern post (xc, xn, xe, xd, yb, ym, he, ne, ki, fi, sd, gi, so) x := by
  rcases h with h | h
  · exact br_t h p
  · exact br_f (tj_ge0 h (by decide)) (br_f (Int32.not_le.mpr (tj_geM (m := 1727) h (by decide) (by decide))) p)
theorem tj_yPy {post : Int32 → Prop} {s : Nat} (hs : s < 1728) (p : post 0) : wpY_badPattern post (xc, xn, xe, xd, yb, ym, he, ne, ki, fi, sd, gi, so) (nI s) :=
  br_f (nI_pos (by omega)) (br_t (nI_le (b := 1727) (by omega) (by omega)) p)
theorem tj_xVn {post : Int32 → Prop} {x : Int32} (h : x < 0 ∨ nI 4 ≤ x) (p : post 0) : wpX_isVariable post x := by
  rcases h with h | h
  · exact br_t h p
  · exact br_f (tj_ge0 h (by decide)) (br_t (tj_geM (m := 3) h (by decide) (by decide)) p)
theorem tj_xVy {post : Int32 → Prop} {s : Nat} (hs : s < 4) (p : post 1) : wpX_isVariable post (nI s) :=
  br_f (nI_pos (by omega)) (br_f (nI_nlt (b := s) (a := 3) (by omega) (by omega)) p)
theorem tj_yVn {post : Int32 → Prop} {x : Int32} (h : x < 0 ∨ nI 4 ≤ x) (p : post 1) : wpY_badVariable post (xc, xn, xe, xd, yb, ym, he, ne, ki, fi, sd, gi, so) x := by
  rcases h with h | h
  · exact br_t h p
  · exact br_f (tj_ge0 h (by decide)) (br_f (Int32.not_le.mpr (tj_geM (m := 3) h (by decide) (by decide))) p)
theorem tj_yVy {post : Int32 → Prop} {s : Nat} (hs : s < 4) (p : post 0) : wpY_badVariable post (xc, xn, xe, xd, yb, ym, he, ne, ki, fi, sd, gi, so) (nI s) :=
  br_f (nI_pos (by omega)) (br_t (nI_le (b := 3) (by omega) (by omega)) p)
end TJY
theorem tj_ix {s r o : Nat} (ho : o < 8) (z : 4 * o + r % 4 = 4 * (s % 8) + s / 8 % 4) : r / 4 = s / 32 ↔ 8 * r + o = s := by
  have e : s / 32 = s / 8 / 4 := by rw [Nat.div_div_eq_div_mul]
  have h1 : o = s % 8 := by omega
  have h2 : r % 4 = s / 8 % 4 := by omega
  have h3 : s = 8 * (s / 8) + s % 8 := by omega
  rw [e]
  generalize s / 8 = t at *
  generalize s % 8 = w at *
  omega
section TJX
variable {xc xn xe xd xu : Int32} {ob su ne ki fi sd bo ta cu fo ma : Nat → Int32}
/-! enter -/
theorem tj_xen1 {H H' : Nat → Prop} {s : Nat} (hs : s < 256) (hob : ∀ r o, r < 32 → o < 8 → (bt (ob r) o = true ↔ H (8 * r + o))) (hsu : ∀ r o, r < 32 → o < 8 → (bt (su (4 * o + r % 4)) (r / 4) = true ↔ H (8 * r + o)))
    (hH : ∀ q, q < 256 → (H' q ↔ H q ∨ q = s))
    : ∃ ob' su' : Nat → Int32, (∀ r o, r < 32 → o < 8 → (bt (ob' r) o = true ↔ H' (8 * r + o))) ∧ (∀ r o, r < 32 → o < 8 → (bt (su' (4 * o + r % 4)) (r / 4) = true ↔ H' (8 * r + o))) ∧ ∀ post : SX → Prop, post (xc + 1, xn, xe, xd, 0, ob', su', ne, ki, fi, sd, bo, ta, cu, fo, ma) → wpX_enter post (xc, xn, xe, xd, xu, ob, su, ne, ki, fi, sd, bo, ta, cu, fo, ma) (nI s) 1 := by
  have e5 : nI s >>> ((5 : Int32) &&& 31) = nI (s / 32) := pk_shrN (by omega) _ 5 (by decide)
  have e3 : nI s >>> ((3 : Int32) &&& 31) = nI (s / 8) := pk_shrN (by omega) _ 3 (by decide)
  have e3' : nI (s / 8) &&& 3 = nI (s / 8 % 4) := pk_andN (by omega) 2 (by decide)
  have e7 : nI s &&& 7 = nI (s % 8) := pk_andN (by omega) 3 (by decide)
  have e6 : 4 * nI (s / 32) + nI (s / 8 % 4) = nI (s / 8) := by
    rw [show (4 : Int32) * nI (s / 32) = nI (4 * (s / 32)) from pk_mul 4 _, nI_add, show 4 * (s / 32) + s / 8 % 4 = s / 8 from by omega]
  have e8 : 4 * nI (s % 8) + nI (s / 8 % 4) = nI (4 * (s % 8) + s / 8 % 4) := by
    rw [show (4 : Int32) * nI (s % 8) = nI (4 * (s % 8)) from pk_mul 4 _, nI_add]
  have i6 : vp_in (nI (s / 8)) 32 := vp_in_nI (by omega) (by omega)
  have i7 : vp_in (nI (4 * (s % 8) + s / 8 % 4)) 32 := vp_in_nI (by omega) (by omega)
  refine ⟨upd ob (s / 8) (ob (s / 8) ||| ((1 : Int32) <<< (nI (s % 8) &&& 31))), upd su (4 * (s % 8) + s / 8 % 4) (su (4 * (s % 8) + s / 8 % 4) ||| ((1 : Int32) <<< (nI (s / 32) &&& 31))), fun r o hr ho => ?_, fun r o hr ho => ?_, fun post h => ?_⟩
  · rw [hH _ (by omega), ← hob r o hr ho]
    by_cases z : r = s / 8
    · rw [z, pk_us, tj_set (by omega) (by omega)]
      exact or_congr Iff.rfl (by omega)
    · rw [pk_un z]
      exact ⟨Or.inl, fun y => y.elim id (fun y => absurd y (by omega))⟩
  · rw [hH _ (by omega), ← hsu r o hr ho]
    by_cases z : 4 * o + r % 4 = 4 * (s % 8) + s / 8 % 4
    · rw [z, pk_us, tj_set (by omega) (by omega)]
      exact or_congr Iff.rfl (tj_ix ho z)
    · rw [pk_un z]
      exact ⟨Or.inl, fun y => y.elim id (fun y => absurd y (by omega))⟩
  · refine nm_r e5 (nm_r (e3 ▸ e3') (nm_r e7 (nm_r e6 (nm_r e8 (br_f (by decide) ⟨i6, ?_⟩)))))
    unfold wX_enter_73 wX_enter_111
    rw [nI_clamp (n := s / 8) (by omega), nI_clamp (n := 4 * (s % 8) + s / 8 % 4) (by omega)]
    exact ⟨i6, nm_e (br_f (by decide) ⟨i7, i7, nm_e (br_f (by decide) (nm_e h))⟩)⟩
theorem tj_xen0 {H H' : Nat → Prop} {s : Nat} (hs : s < 256) (hob : ∀ r o, r < 32 → o < 8 → (bt (ob r) o = true ↔ H (8 * r + o))) (hsu : ∀ r o, r < 32 → o < 8 → (bt (su (4 * o + r % 4)) (r / 4) = true ↔ H (8 * r + o)))
    (hH : ∀ q, q < 256 → (H' q ↔ H q ∧ q ≠ s))
    : ∃ ob' su' : Nat → Int32, (∀ r o, r < 32 → o < 8 → (bt (ob' r) o = true ↔ H' (8 * r + o))) ∧ (∀ r o, r < 32 → o < 8 → (bt (su' (4 * o + r % 4)) (r / 4) = true ↔ H' (8 * r + o))) ∧ ∀ post : SX → Prop, post (xc + (-1), xn, xe, xd, 0, ob', su', ne, ki, fi, sd, bo, ta, cu, fo, ma) → wpX_enter post (xc, xn, xe, xd, xu, ob, su, ne, ki, fi, sd, bo, ta, cu, fo, ma) (nI s) 0 := by
  have e5 : nI s >>> ((5 : Int32) &&& 31) = nI (s / 32) := pk_shrN (by omega) _ 5 (by decide)
  have e3 : nI s >>> ((3 : Int32) &&& 31) = nI (s / 8) := pk_shrN (by omega) _ 3 (by decide)
  have e3' : nI (s / 8) &&& 3 = nI (s / 8 % 4) := pk_andN (by omega) 2 (by decide)
  have e7 : nI s &&& 7 = nI (s % 8) := pk_andN (by omega) 3 (by decide)
  have e6 : 4 * nI (s / 32) + nI (s / 8 % 4) = nI (s / 8) := by
    rw [show (4 : Int32) * nI (s / 32) = nI (4 * (s / 32)) from pk_mul 4 _, nI_add, show 4 * (s / 32) + s / 8 % 4 = s / 8 from by omega]
  have e8 : 4 * nI (s % 8) + nI (s / 8 % 4) = nI (4 * (s % 8) + s / 8 % 4) := by
    rw [show (4 : Int32) * nI (s % 8) = nI (4 * (s % 8)) from pk_mul 4 _, nI_add]
  have i6 : vp_in (nI (s / 8)) 32 := vp_in_nI (by omega) (by omega)
  have i7 : vp_in (nI (4 * (s % 8) + s / 8 % 4)) 32 := vp_in_nI (by omega) (by omega)
  refine ⟨upd ob (s / 8) (ob (s / 8) &&& (((1 : Int32) <<< (nI (s % 8) &&& 31)) ^^^ (-1))), upd su (4 * (s % 8) + s / 8 % 4) (su (4 * (s % 8) + s / 8 % 4) &&& (((1 : Int32) <<< (nI (s / 32) &&& 31)) ^^^ (-1))), fun r o hr ho => ?_, fun r o hr ho => ?_, fun post h => ?_⟩
  · rw [hH _ (by omega), ← hob r o hr ho]
    by_cases z : r = s / 8
    · rw [z, pk_us, tj_clr (by omega) (by omega)]
      exact and_congr Iff.rfl (by omega)
    · rw [pk_un z]
      exact ⟨fun y => ⟨y, by omega⟩, fun y => y.1⟩
  · rw [hH _ (by omega), ← hsu r o hr ho]
    by_cases z : 4 * o + r % 4 = 4 * (s % 8) + s / 8 % 4
    · rw [z, pk_us, tj_clr (by omega) (by omega)]
      exact and_congr Iff.rfl (not_congr (tj_ix ho z))
    · rw [pk_un z]
      exact ⟨fun y => ⟨y, by omega⟩, fun y => y.1⟩
  · refine nm_r e5 (nm_r (e3 ▸ e3') (nm_r e7 (nm_r e6 (nm_r e8 (br_t rfl ⟨i6, ?_⟩)))))
    unfold wX_enter_73 wX_enter_111
    rw [nI_clamp (n := s / 8) (by omega), nI_clamp (n := 4 * (s % 8) + s / 8 % 4) (by omega)]
    exact ⟨i6, nm_e (br_t rfl ⟨i7, i7, nm_e (br_t rfl (nm_e h))⟩)⟩
end TJX
end
section
/-! the relation -/
def tj_F (nd nc : Nat) (xp : Option Nat) (ob su ne ki fi sd he : Nat → Int32) (np ck cf cs : Nat → Nat) : Prop :=
  nd ≤ 4 ∧ nc ≤ 3 ∧ (∀ p, xp = some p → p < 1728) ∧ (∀ r o, r < 32 → o < 8 → (bt (ob r) o = true ↔ ¬ he (8 * r + o) = 0)) ∧ (∀ r o, r < 32 → o < 8 → (bt (su (4 * o + r % 4)) (r / 4) = true ↔ ¬ he (8 * r + o) = 0)) ∧
  (∀ k, k < 4 → ne k = nI (np k) ∧ np k < 1728) ∧ (∀ i, i < 3 → ki i = nI (ck i) ∧ ck i ≤ 2 ∧ fi i = nI (cf i) ∧ cf i < 12 ∧ sd i = nI (cs i) ∧ cs i < 12)
def tj_Cu (nd nc : Nat) (xp : Option Nat) (he : Nat → Int32) (np ck cf cs : Nat → Nat) (xu : Int32) (ma : Nat → Int32) : Prop :=
  xu = 0 ∨ (xu = 1 ∧ ∀ q, q < 6561 → (tj_mk ma q ↔ tj_SS (fun s => ¬ he s = 0) nd np xp nc ck cf cs q))
def tj_Ct (k : Nat) (xc : Int32) : Prop := xc.toInt ≤ 48 ∧ -(k : Int) ≤ xc.toInt
/-- equal counts, patterns and conditions; the component's bits are the reference's statements; a current map marks the solutions -/
def i_Rel (k : Nat) (u : SX) (v : SY) : Prop :=
  ∃ (xc : Int32) (nd nc : Nat) (xp : Option Nat) (xu yb ym : Int32) (ob su ne ki fi sd bo ta cu fo ma he gi so : Nat → Int32) (np ck cf cs : Nat → Nat),
    u = (xc, nI nd, tj_xI xp, nI nc, xu, ob, su, ne, ki, fi, sd, bo, ta, cu, fo, ma) ∧ v = (xc, nI nd, tj_xI xp, nI nc, yb, ym, he, ne, ki, fi, sd, gi, so) ∧ tj_Ct k xc ∧ tj_F nd nc xp ob su ne ki fi sd he np ck cf cs ∧ tj_Cu nd nc xp he np ck cf cs xu ma
theorem tj_el {k : Nat} {P : SX → SY → Prop}
    (h : ∀ (xc : Int32) (nd nc : Nat) (xp : Option Nat) (xu yb ym : Int32) (ob su ne ki fi sd bo ta cu fo ma he gi so : Nat → Int32) (np ck cf cs : Nat → Nat),
      tj_Ct k xc → tj_F nd nc xp ob su ne ki fi sd he np ck cf cs → tj_Cu nd nc xp he np ck cf cs xu ma → P (xc, nI nd, tj_xI xp, nI nc, xu, ob, su, ne, ki, fi, sd, bo, ta, cu, fo, ma) (xc, nI nd, tj_xI xp, nI nc, yb, ym, he, ne, ki, fi, sd, gi, so))
    {u : SX} {v : SY} (I : i_Rel k u v) : P u v := by
  obtain ⟨xc, nd, nc, xp, xu, yb, ym, ob, su, ne, ki, fi, sd, bo, ta, cu, fo, ma, he, gi, so, np, ck, cf, cs, e1, e2, h1, h2, h3⟩ := I
  rw [e1, e2]
  exact h xc nd nc xp xu yb ym ob su ne ki fi sd bo ta cu fo ma he gi so np ck cf cs h1 h2 h3
section TJR
variable {xc xn xe xd xu : Int32} {ob su ne ki fi sd bo ta cu fo ma : Nat → Int32}
variable {yb ym : Int32} {he gi so : Nat → Int32} {np ck cf cs : Nat → Nat} {xp : Option Nat} {nd nc k : Nat}
theorem tj_in (hc : tj_Ct k xc) (hF : tj_F nd nc xp ob su ne ki fi sd he np ck cf cs) (hU : tj_Cu nd nc xp he np ck cf cs xu ma) : i_Rel k (xc, nI nd, tj_xI xp, nI nc, xu, ob, su, ne, ki, fi, sd, bo, ta, cu, fo, ma) (xc, nI nd, tj_xI xp, nI nc, yb, ym, he, ne, ki, fi, sd, gi, so) :=
  ⟨xc, nd, nc, xp, xu, yb, ym, ob, su, ne, ki, fi, sd, bo, ta, cu, fo, ma, he, gi, so, np, ck, cf, cs, rfl, rfl, hc, hF, hU⟩
theorem tj_Ct_up {m : Nat} (h : tj_Ct k xc) : tj_Ct (k + m) xc := ⟨h.1, by have := h.2; omega⟩
end TJR
theorem i_up {k : Nat} {u : SX} {v : SY} (h : i_Rel k u v) : i_Rel (k + 4) u v := by
  refine tj_el (P := fun u v => i_Rel (k + 4) u v) ?_ h
  intro xc nd nc xp xu yb ym ob su ne ki fi sd bo ta cu fo ma he gi so np ck cf cs hc hF hU
  exact tj_in (tj_Ct_up hc) hF hU
theorem i_vc0 : wpX_init (fun u => wpY_init (fun v => i_Rel 0 u v)) := by
  have hF : tj_F 0 0 none (fun _ => 0) (fun _ => 0) (fun _ => 0) (fun _ => 0) (fun _ => 0) (fun _ => 0) (fun _ => 0) (fun _ => 0) (fun _ => 0) (fun _ => 0) (fun _ => 0) :=
    ⟨by omega, by omega, fun p e => (nomatch e), fun r o _ _ => ⟨fun z => absurd z (by rw [b_0]; decide), fun z => absurd rfl z⟩, fun r o _ _ => ⟨fun z => absurd z (by rw [b_0]; decide), fun z => absurd rfl z⟩, fun k _ => ⟨rfl, (by decide : (0 : Nat) < 1728)⟩, fun i _ => ⟨rfl, Nat.zero_le 2, rfl, (by decide : (0 : Nat) < 12), rfl, (by decide : (0 : Nat) < 12)⟩⟩
  unfold wpX_init wpY_init
  exact ⟨0, 0, 0, none, 0, 0, 0, fun _ => 0, fun _ => 0, fun _ => 0, fun _ => 0, fun _ => 0, fun _ => 0, fun _ => 0, fun _ => 0, fun _ => 0, fun _ => 0, fun _ => 0, fun _ => 0, fun _ => 0, fun _ => 0, fun _ => 0, fun _ => 0, fun _ => 0, fun _ => 0, rfl, rfl, ⟨by decide, by decide⟩, hF, Or.inl rfl⟩
/-! state, sow, retract -/
theorem tj_F_he {nd nc : Nat} {xp : Option Nat} {ob su ne ki fi sd he ob' su' he' : Nat → Int32} {np ck cf cs : Nat → Nat} (h : tj_F nd nc xp ob su ne ki fi sd he np ck cf cs)
    (h1 : ∀ r o, r < 32 → o < 8 → (bt (ob' r) o = true ↔ ¬ he' (8 * r + o) = 0)) (h2 : ∀ r o, r < 32 → o < 8 → (bt (su' (4 * o + r % 4)) (r / 4) = true ↔ ¬ he' (8 * r + o) = 0)) : tj_F nd nc xp ob' su' ne ki fi sd he' np ck cf cs := by
  obtain ⟨a1, a2, a3, _, _, a6, a7⟩ := h
  exact ⟨a1, a2, a3, h1, h2, a6, a7⟩
theorem tj_h1 {he : Nat → Int32} {s q : Nat} : (¬ upd he s 1 q = 0) ↔ (¬ he q = 0) ∨ q = s := by
  by_cases e : q = s
  · rw [e, pk_us]; exact ⟨fun _ => Or.inr rfl, fun _ => by decide⟩
  · rw [pk_un e]; exact ⟨Or.inl, fun z => z.elim id (fun y => absurd y e)⟩
theorem tj_h0 {he : Nat → Int32} {s q : Nat} : (¬ upd he s 0 q = 0) ↔ (¬ he q = 0) ∧ q ≠ s := by
  by_cases e : q = s
  · rw [e, pk_us]; exact ⟨fun z => absurd rfl z, fun z => absurd rfl z.2⟩
  · rw [pk_un e]; exact ⟨fun z => ⟨z, e⟩, fun z => z.1⟩
theorem tj_48 {xc : Int32} (h : xc.toInt ≤ 48) : (xc = 48 → ¬ xc ≤ 47) ∧ (¬ xc = 48 → xc ≤ 47 ∧ (xc + 1).toInt = xc.toInt + 1) := by
  have e48 : (48 : Int32).toInt = 48 := by decide
  have e47 : (47 : Int32).toInt = 47 := by decide
  have e1 : (1 : Int32).toInt = 1 := by decide
  have lo := xc.le_toInt
  refine ⟨fun e => ?_, fun e => ?_⟩
  · rw [e]; decide
  · have ne : xc.toInt ≠ 48 := fun z => e (Int32.toInt_inj.mp (z.trans e48.symm))
    refine ⟨?_, ?_⟩
    · rw [Int32.le_iff_toInt_le, e47]; omega
    · rw [Int32.toInt_add, e1]
      exact Int.bmod_eq_of_le (by omega) (by omega)
theorem tj_m1 {xc : Int32} {k : Nat} (h : -(k : Int) ≤ xc.toInt) (hk : k < 4096) : (xc - 1).toInt = xc.toInt - 1 := by
  have e1 : (1 : Int32).toInt = 1 := by decide
  have hi := xc.toInt_lt
  rw [Int32.toInt_sub, e1]
  exact Int.bmod_eq_of_le (by omega) (by omega)
theorem tj_state {k : Nat} {u : SX} {v : SY} (I : i_Rel k u v) (x : Int32) : ∃ r u' v', i_Rel k u' v' ∧ (∀ post : Int32 → SX → Prop, post r u' → wpX_state post u x) ∧ (∀ post : Int32 → SY → Prop, post r v' → wpY_state post v x) := by
  refine tj_el (P := fun u v => ∃ r u' v', i_Rel k u' v' ∧ (∀ post : Int32 → SX → Prop, post r u' → wpX_state post u x) ∧ (∀ post : Int32 → SY → Prop, post r v' → wpY_state post v x)) ?_ I
  intro xc nd nc xp xu yb ym ob su ne ki fi sd bo ta cu fo ma he gi so np ck cf cs hc hF hU
  have no : (x < 0 ∨ nI 256 ≤ x) → ∃ r u' v', i_Rel k u' v' ∧ (∀ post : Int32 → SX → Prop, post r u' → wpX_state post (xc, nI nd, tj_xI xp, nI nc, xu, ob, su, ne, ki, fi, sd, bo, ta, cu, fo, ma) x) ∧ (∀ post : Int32 → SY → Prop, post r v' → wpY_state post (xc, nI nd, tj_xI xp, nI nc, yb, ym, he, ne, ki, fi, sd, gi, so) x) := by
    intro h
    refine ⟨-1, _, _, tj_in (yb := yb) (ym := ym) (gi := gi) (so := so) (bo := bo) (ta := ta) (cu := cu) (fo := fo) hc hF hU, fun post hp => ?_, fun post hp => ?_⟩
    · unfold wpX_state
      exact tj_xSn h (br_t rfl hp)
    · unfold wpY_state
      exact tj_ySn h (br_f (by decide) hp)
  rcases pk_ix x (n := 256) (by decide) with h | h | ⟨s, hs, e⟩
  · exact no (Or.inl h)
  · exact no (Or.inr h)
  · subst e
    have hF' := hF
    obtain ⟨_, _, _, hob, hsu, _, _⟩ := hF'
    have hi : vp_in (nI s) 256 := vp_in_nI hs (by omega)
    have cl : (nI s).toNatClampNeg = s := nI_clamp (by omega)
    by_cases hz : he s = 0
    · by_cases c48 : xc = 48
      · refine ⟨-2, _, _, tj_in (yb := yb) (ym := ym) (gi := gi) (so := so) (bo := bo) (ta := ta) (cu := cu) (fo := fo) hc hF hU, fun post hp => ?_, fun post hp => ?_⟩
        · unfold wpX_state
          exact tj_xSy hs (br_f (by decide) (tj_xh (H := fun s => ¬ he s = 0) hs hob (fun z => absurd hz z) (fun _ => br_t rfl (br_t c48 hp))))
        · unfold wpY_state
          refine tj_ySy hs (br_t rfl ⟨hi, ?_⟩)
          rw [cl]
          exact br_t hz (br_f ((tj_48 hc.1).1 c48) hp)
      · obtain ⟨ob', su', h1, h2, h3⟩ := tj_xen1 (xc := xc) (xn := nI nd) (xe := tj_xI xp) (xd := nI nc) (xu := xu) (ob := ob) (su := su) (ne := ne) (ki := ki) (fi := fi) (sd := sd) (bo := bo) (ta := ta) (cu := cu) (fo := fo) (ma := ma) (H := fun s => ¬ he s = 0) (H' := fun q => ¬ upd he s 1 q = 0) hs hob hsu (fun q _ => tj_h1)
        obtain ⟨q1, q2⟩ := (tj_48 hc.1).2 c48
        have hc' : tj_Ct k (xc + 1) := by
          have e47 : (47 : Int32).toInt = 47 := by decide
          rw [Int32.le_iff_toInt_le, e47] at q1
          have := hc.2
          exact ⟨by omega, by omega⟩
        refine ⟨1, _, _, tj_in (yb := yb) (ym := ym) (gi := gi) (so := so) (bo := bo) (ta := ta) (cu := cu) (fo := fo) (xu := 0) (ma := ma) hc' (tj_F_he hF h1 h2) (Or.inl rfl), fun post hp => ?_, fun post hp => ?_⟩
        · unfold wpX_state
          exact tj_xSy hs (br_f (by decide) (tj_xh (H := fun s => ¬ he s = 0) hs hob (fun z => absurd hz z) (fun _ => br_t rfl (br_f c48 (h3 _ hp)))))
        · unfold wpY_state
          refine tj_ySy hs (br_t rfl ⟨hi, ?_⟩)
          rw [cl]
          exact br_t hz (br_t q1 ⟨hi, nm_r (e' := upd he s 1) (by rw [tj_nb1]) (nm_e hp)⟩)
    · refine ⟨0, _, _, tj_in (yb := yb) (ym := ym) (gi := gi) (so := so) (bo := bo) (ta := ta) (cu := cu) (fo := fo) hc hF hU, fun post hp => ?_, fun post hp => ?_⟩
      · unfold wpX_state
        exact tj_xSy hs (br_f (by decide) (tj_xh (H := fun s => ¬ he s = 0) hs hob (fun _ => br_f (by decide) hp) (fun z => absurd hz z)))
      · unfold wpY_state
        refine tj_ySy hs (br_t rfl ⟨hi, ?_⟩)
        rw [cl]
        exact br_f hz hp
theorem i_vc_state {k : Nat} {u : SX} {v : SY} (I : i_Rel k u v) (hk : k + 4 ≤ 2048) (v1 : Int32) : wpX_state (fun r u' => wpY_state (fun r' v' => r' = r ∧ i_Rel (k + 4) u' v') v v1) u v1 := by
  obtain ⟨r, u', v', h, hX, hY⟩ := tj_state I v1
  exact hX _ (hY _ ⟨rfl, i_up h⟩)
def tj_sX (post : Int32 → SX → Prop) (x1 x2 x3 : Int32) (n : Nat) (x4 : Int32) (u : SX) : Prop := match u with | (xc, xn, xe, xd, xu, ob, su, ne, ki, fi, sd, bo, ta, cu, fo, ma) => wX_sow_36 post x1 x2 x3 n x4 xc xn xe xd xu ob su ne ki fi sd bo ta cu fo ma
def tj_sY (post : Int32 → SY → Prop) (x1 x2 x3 : Int32) (n : Nat) (x4 : Int32) (v : SY) : Prop := match v with | (xc, xn, xe, xd, yb, ym, he, ne, ki, fi, sd, gi, so) => wY_sow_41 post x1 x2 x3 n x4 xc xn xe xd yb ym he ne ki fi sd gi so
theorem tj_sX_s {post : Int32 → SX → Prop} {x1 x2 x3 x4 : Int32} {n : Nat} {u : SX} (h : ¬ x3 ≤ x4) (hs : wpX_state (fun _ u' => tj_sX post x1 x2 x3 n (x4 + 1) u') u ((x1 + (x4 * x2)) &&& 255)) : tj_sX post x1 x2 x3 (n + 1) x4 u := by
  obtain ⟨xc, xn, xe, xd, xu, ob, su, ne, ki, fi, sd, bo, ta, cu, fo, ma⟩ := u
  refine br_f h ?_
  have e : (fun (_ : Int32) (u' : SX) => tj_sX post x1 x2 x3 n (x4 + 1) u') = (fun (_ : Int32) (u : SX) => match u with | (xc, xn, xe, xd, xu, ob, su, ne, ki, fi, sd, bo, ta, cu, fo, ma) => ∀ x4_25 : Int32, x4_25 = x4 + 1 → wX_sow_36 post x1 x2 x3 n x4_25 xc xn xe xd xu ob su ne ki fi sd bo ta cu fo ma) := by
    funext _ u'
    obtain ⟨xc, xn, xe, xd, xu, ob, su, ne, ki, fi, sd, bo, ta, cu, fo, ma⟩ := u'
    exact propext ⟨fun z => nm_e z, fun z => z _ rfl⟩
  rw [e] at hs
  exact hs
theorem tj_sY_s {post : Int32 → SY → Prop} {x1 x2 x3 x4 : Int32} {n : Nat} {v : SY} (h : ¬ x3 ≤ x4) (hs : wpY_state (fun _ v' => tj_sY post x1 x2 x3 n (x4 + 1) v') v ((x1 + (x4 * x2)) - (x1 + (x4 * x2)) / 256 * 256)) : tj_sY post x1 x2 x3 (n + 1) x4 v := by
  obtain ⟨xc, xn, xe, xd, yb, ym, he, ne, ki, fi, sd, gi, so⟩ := v
  refine br_f h ⟨by decide, ?_⟩
  have e : (fun (_ : Int32) (v' : SY) => tj_sY post x1 x2 x3 n (x4 + 1) v') = (fun (_ : Int32) (v : SY) => match v with | (xc, xn, xe, xd, yb, ym, he, ne, ki, fi, sd, gi, so) => ∀ x4_36 : Int32, x4_36 = x4 + 1 → wY_sow_41 post x1 x2 x3 n x4_36 xc xn xe xd yb ym he ne ki fi sd gi so) := by
    funext _ v'
    obtain ⟨xc, xn, xe, xd, yb, ym, he, ne, ki, fi, sd, gi, so⟩ := v'
    exact propext ⟨fun z => nm_e z, fun z => z _ rfl⟩
  rw [e] at hs
  exact hs
theorem tj_sow {k a b c : Nat} (ha : a < 256) (hb : b < 256) (hc : c ≤ 48) : ∀ m j (u : SX) (v : SY), j + m = c → i_Rel k u v → ∃ r u' v', i_Rel k u' v' ∧
    (∀ post : Int32 → SX → Prop, post r u' → tj_sX post (nI a) (nI b) (nI c) (m + 1) (nI j) u) ∧ (∀ post : Int32 → SY → Prop, post r v' → tj_sY post (nI a) (nI b) (nI c) (m + 1) (nI j) v) := by
  intro m
  induction m with
  | zero =>
    intro j u v hj I
    have le : nI c ≤ nI j := nI_le (by omega) (by omega)
    refine tj_el (P := fun u v => ∃ r u' v', i_Rel k u' v' ∧ (∀ post : Int32 → SX → Prop, post r u' → tj_sX post (nI a) (nI b) (nI c) (0 + 1) (nI j) u) ∧ (∀ post : Int32 → SY → Prop, post r v' → tj_sY post (nI a) (nI b) (nI c) (0 + 1) (nI j) v)) ?_ I
    intro xc nd nc xp xu yb ym ob su ne ki fi sd bo ta cu fo ma he gi so np ck cf cs hc hF hU
    exact ⟨xc, _, _, tj_in (yb := yb) (ym := ym) (gi := gi) (so := so) (bo := bo) (ta := ta) (cu := cu) (fo := fo) hc hF hU, fun post hp => br_t le hp, fun post hp => br_t le hp⟩
  | succ m ih =>
    intro j u v hj I
    have nle : ¬ nI c ≤ nI j := nI_ge (by omega) (by omega)
    have jb : j * b ≤ 48 * 256 := Nat.mul_le_mul (by omega) (by omega)
    have e1 : nI a + nI j * nI b = nI (a + j * b) := by rw [pk_mul, nI_add]
    have eX : (nI a + nI j * nI b) &&& 255 = nI ((a + j * b) % 256) := by
      rw [e1]
      exact pk_andN (by omega) 8 (by decide)
    have eY : (nI a + nI j * nI b) - (nI a + nI j * nI b) / 256 * 256 = nI ((a + j * b) % 256) := by
      rw [e1]
      exact pk_rem (d := 256) (by omega) (by omega) (by omega)
    obtain ⟨r1, u1, v1, I1, hX1, hY1⟩ := tj_state I (nI ((a + j * b) % 256))
    obtain ⟨r, u', v', I2, hX2, hY2⟩ := ih (j + 1) u1 v1 (by omega) I1
    refine ⟨r, u', v', I2, fun post hp => tj_sX_s nle ?_, fun post hp => tj_sY_s nle ?_⟩
    · rw [eX, nI_1 j]
      exact hX1 _ (hX2 post hp)
    · rw [eY, nI_1 j]
      exact hY1 _ (hY2 post hp)
end
section
theorem i_vc_sow {k : Nat} {u : SX} {v : SY} (I : i_Rel k u v) (hk : k + 4 ≤ 2048) (v1 : Int32) (v2 : Int32) (v3 : Int32) : wpX_sow (fun r u' => wpY_sow (fun r' v' => r' = r ∧ i_Rel (k + 4) u' v') v v1 v2 v3) u v1 v2 v3 := by
  have sow := fun {a b c : Nat} (ha : a < 256) (hb : b < 256) (hc : c ≤ 48) => tj_sow (k := k) ha hb hc c 0 u v (by omega) I
  have I' := i_up I
  revert sow I'
  refine tj_el (P := fun u v => (∀ {a b c : Nat}, a < 256 → b < 256 → c ≤ 48 → ∃ r u' v', i_Rel k u' v' ∧ (∀ post : Int32 → SX → Prop, post r u' → tj_sX post (nI a) (nI b) (nI c) (c + 1) (nI 0) u) ∧ (∀ post : Int32 → SY → Prop, post r v' → tj_sY post (nI a) (nI b) (nI c) (c + 1) (nI 0) v)) → i_Rel (k + 4) u v → wpX_sow (fun r u' => wpY_sow (fun r' v' => r' = r ∧ i_Rel (k + 4) u' v') v v1 v2 v3) u v1 v2 v3) ?_ I
  intro xc nd nc xp xu yb ym ob su ne ki fi sd bo ta cu fo ma he gi so np ck cf cs _ _ _ sow I'
  have no1 : (v1 < 0 ∨ nI 256 ≤ v1) → wpX_sow (fun r u' => wpY_sow (fun r' v' => r' = r ∧ i_Rel (k + 4) u' v') (xc, nI nd, tj_xI xp, nI nc, yb, ym, he, ne, ki, fi, sd, gi, so) v1 v2 v3) (xc, nI nd, tj_xI xp, nI nc, xu, ob, su, ne, ki, fi, sd, bo, ta, cu, fo, ma) v1 v2 v3 := by
    intro h
    unfold wpX_sow
    refine tj_xSn h (br_t rfl ?_)
    unfold wpY_sow
    exact tj_ySn h (br_f (by decide) ⟨rfl, I'⟩)
  rcases pk_ix v1 (n := 256) (by decide) with h | h | ⟨a, ha, e⟩
  · exact no1 (Or.inl h)
  · exact no1 (Or.inr h)
  · subst e
    unfold wpX_sow
    refine tj_xSy ha (br_f (by decide) ?_)
    rcases pk_ix v2 (n := 256) (by decide) with h | h | ⟨b, hb, e⟩
    · refine tj_xSn (Or.inl h) (br_t rfl ?_)
      unfold wpY_sow
      exact tj_ySy ha (br_t rfl (br_t h ⟨rfl, I'⟩))
    · refine tj_xSn (Or.inr h) (br_t rfl ?_)
      unfold wpY_sow
      exact tj_ySy ha (br_t rfl (br_f (tj_ge0 h (by decide)) (br_f (Int32.not_le.mpr (tj_geM (m := 255) h (by decide) (by decide))) ⟨rfl, I'⟩)))
    · subst e
      have hb0 : ¬ nI b < 0 := nI_pos (by omega)
      have hb1 : nI b ≤ 255 := nI_le (b := 255) (by omega) (by omega)
      refine tj_xSy hb (br_f (by decide) (br_c (fun h1 => ?_) (fun h1 => br_c (fun h48 => ?_) (fun h48 => ?_))))
      · unfold wpY_sow
        exact tj_ySy ha (br_t rfl (br_f hb0 (br_t hb1 (br_t h1 ⟨rfl, I'⟩))))
      · have h0 : ¬ v3 < 0 := by
          intro z
          apply h1
          rw [Int32.lt_iff_toInt_lt] at z ⊢
          have e0 : (0 : Int32).toInt = 0 := by decide
          have e1 : (1 : Int32).toInt = 1 := by decide
          omega
        obtain ⟨c, hc, rfl⟩ := nI_of2 (M := 48) (n := 48) (by decide) h0 h48
        obtain ⟨r, u', v', I2, hX, hY⟩ := sow ha hb hc
        refine ⟨c + 1, hX (fun r u' => wpY_sow (fun r' v' => r' = r ∧ i_Rel (k + 4) u' v') (xc, nI nd, tj_xI xp, nI nc, yb, ym, he, ne, ki, fi, sd, gi, so) (nI a) (nI b) (nI c)) ?_⟩
        unfold wpY_sow
        exact tj_ySy ha (br_t rfl (br_f hb0 (br_t hb1 (br_f h1 (br_t h48 ⟨c + 1, hY (fun r' v' => r' = r ∧ i_Rel (k + 4) u' v') ⟨rfl, i_up I2⟩⟩)))))
      · unfold wpY_sow
        exact tj_ySy ha (br_t rfl (br_f hb0 (br_t hb1 (br_f h1 (br_f h48 ⟨rfl, I'⟩)))))
theorem i_vc_retract {k : Nat} {u : SX} {v : SY} (I : i_Rel k u v) (hk : k + 4 ≤ 2048) (v1 : Int32) : wpX_retract (fun r u' => wpY_retract (fun r' v' => r' = r ∧ i_Rel (k + 4) u' v') v v1) u v1 := by
  refine tj_el (P := fun u v => wpX_retract (fun r u' => wpY_retract (fun r' v' => r' = r ∧ i_Rel (k + 4) u' v') v v1) u v1) ?_ I
  intro xc nd nc xp xu yb ym ob su ne ki fi sd bo ta cu fo ma he gi so np ck cf cs hc hF hU
  have I' : i_Rel (k + 4) (xc, nI nd, tj_xI xp, nI nc, xu, ob, su, ne, ki, fi, sd, bo, ta, cu, fo, ma) (xc, nI nd, tj_xI xp, nI nc, yb, ym, he, ne, ki, fi, sd, gi, so) := tj_in (tj_Ct_up hc) hF hU
  have no1 : (v1 < 0 ∨ nI 256 ≤ v1) → wpX_retract (fun r u' => wpY_retract (fun r' v' => r' = r ∧ i_Rel (k + 4) u' v') (xc, nI nd, tj_xI xp, nI nc, yb, ym, he, ne, ki, fi, sd, gi, so) v1) (xc, nI nd, tj_xI xp, nI nc, xu, ob, su, ne, ki, fi, sd, bo, ta, cu, fo, ma) v1 := by
    intro h
    unfold wpX_retract
    refine tj_xSn h (br_t rfl ?_)
    unfold wpY_retract
    exact tj_ySn h (br_f (by decide) ⟨rfl, I'⟩)
  rcases pk_ix v1 (n := 256) (by decide) with h | h | ⟨s, hs, e⟩
  · exact no1 (Or.inl h)
  · exact no1 (Or.inr h)
  · subst e
    have hF' := hF
    obtain ⟨_, _, _, hob, hsu, _, _⟩ := hF'
    have hi : vp_in (nI s) 256 := vp_in_nI hs (by omega)
    have cl : (nI s).toNatClampNeg = s := nI_clamp (by omega)
    unfold wpX_retract
    refine tj_xSy hs (br_f (by decide) (tj_xh (H := fun s => ¬ he s = 0) hs hob (fun hz => br_f (by decide) ?_) (fun hz => br_t rfl ?_)))
    · obtain ⟨ob', su', h1, h2, h3⟩ := tj_xen0 (xc := xc) (xn := nI nd) (xe := tj_xI xp) (xd := nI nc) (xu := xu) (ob := ob) (su := su) (ne := ne) (ki := ki) (fi := fi) (sd := sd) (bo := bo) (ta := ta) (cu := cu) (fo := fo) (ma := ma) (H := fun s => ¬ he s = 0) (H' := fun q => ¬ upd he s 0 q = 0) hs hob hsu (fun q _ => tj_h0)
      refine h3 _ ?_
      unfold wpY_retract
      refine tj_ySy hs (br_t rfl ⟨hi, ?_⟩)
      rw [cl]
      have e1 : xc - 1 = xc + (-1) := Int32.sub_eq_add_neg _ _
      have e2 := tj_m1 hc.2 (by omega)
      rw [e1] at e2
      have hc' : tj_Ct (k + 4) (xc + (-1)) := by
        have a := hc.1
        have b := hc.2
        exact ⟨by omega, by omega⟩
      exact br_f hz ⟨hi, nm_r (e' := upd he s 0) (by rw [tj_nb0]) (nm_r e1 ⟨rfl, tj_in hc' (tj_F_he hF h1 h2) (Or.inl rfl)⟩)⟩
    · unfold wpY_retract
      refine tj_ySy hs (br_t rfl ⟨hi, ?_⟩)
      rw [cl]
      exact br_t (Classical.byContradiction hz) ⟨rfl, I'⟩
/-! need, extra, condition, drop, clear, statements -/
theorem i_vc_need {k : Nat} {u : SX} {v : SY} (I : i_Rel k u v) (hk : k + 4 ≤ 2048) (v1 : Int32) : wpX_need (fun r u' => wpY_need (fun r' v' => r' = r ∧ i_Rel (k + 4) u' v') v v1) u v1 := by
  refine tj_el (P := fun u v => wpX_need (fun r u' => wpY_need (fun r' v' => r' = r ∧ i_Rel (k + 4) u' v') v v1) u v1) ?_ I
  intro xc nd nc xp xu yb ym ob su ne ki fi sd bo ta cu fo ma he gi so np ck cf cs hc hF hU
  have I' : i_Rel (k + 4) (xc, nI nd, tj_xI xp, nI nc, xu, ob, su, ne, ki, fi, sd, bo, ta, cu, fo, ma) (xc, nI nd, tj_xI xp, nI nc, yb, ym, he, ne, ki, fi, sd, gi, so) := tj_in (tj_Ct_up hc) hF hU
  have no1 : (v1 < 0 ∨ nI 1728 ≤ v1) → wpX_need (fun r u' => wpY_need (fun r' v' => r' = r ∧ i_Rel (k + 4) u' v') (xc, nI nd, tj_xI xp, nI nc, yb, ym, he, ne, ki, fi, sd, gi, so) v1) (xc, nI nd, tj_xI xp, nI nc, xu, ob, su, ne, ki, fi, sd, bo, ta, cu, fo, ma) v1 := by
    intro h
    unfold wpX_need
    refine tj_xPn h (br_t rfl ?_)
    unfold wpY_need
    exact tj_yPn h (br_f (by decide) ⟨rfl, I'⟩)
  rcases pk_ix v1 (n := 1728) (by decide) with h | h | ⟨p, hp, e⟩
  · exact no1 (Or.inl h)
  · exact no1 (Or.inr h)
  · subst e
    obtain ⟨hnd, hnc, hx, hob, hsu, hne, hki⟩ := hF
    unfold wpX_need
    refine tj_xPy hp (br_f (by decide) (pk_eq nd 4 (fun h4 => ?_) (fun h4 => ?_)))
    · unfold wpY_need
      exact tj_yPy hp (br_t rfl (br_f (nI_ge (a := 3) (by omega) (by omega)) ⟨rfl, I'⟩))
    · have hi : vp_in (nI nd) 4 := vp_in_nI (by omega) (by omega)
      have cl : (nI nd).toNatClampNeg = nd := nI_clamp (by omega)
      refine ⟨hi, nm_r (e' := upd ne nd (nI p)) (by rw [cl]) (nm_r (nI_1 nd) ?_)⟩
      unfold wpY_need
      refine tj_yPy hp (br_t rfl (br_t (nI_le (b := 3) (by omega) (by omega)) ⟨hi, nm_r (e' := upd ne nd (nI p)) (by rw [cl]) (nm_r (nI_1 nd) ⟨rfl, ?_⟩)⟩))
      refine tj_in (np := fun j => if j = nd then p else np j) (ck := ck) (cf := cf) (cs := cs) (tj_Ct_up hc) ⟨by omega, hnc, hx, hob, hsu, fun j hj => ?_, hki⟩ (Or.inl rfl)
      show upd ne nd (nI p) j = nI (if j = nd then p else np j) ∧ (if j = nd then p else np j) < 1728
      by_cases z : j = nd
      · rw [z, pk_us, if_pos rfl]; exact ⟨rfl, hp⟩
      · rw [pk_un z, if_neg z]; exact hne j hj
theorem i_vc_extra {k : Nat} {u : SX} {v : SY} (I : i_Rel k u v) (hk : k + 4 ≤ 2048) (v1 : Int32) : wpX_extra (fun r u' => wpY_extra (fun r' v' => r' = r ∧ i_Rel (k + 4) u' v') v v1) u v1 := by
  refine tj_el (P := fun u v => wpX_extra (fun r u' => wpY_extra (fun r' v' => r' = r ∧ i_Rel (k + 4) u' v') v v1) u v1) ?_ I
  intro xc nd nc xp xu yb ym ob su ne ki fi sd bo ta cu fo ma he gi so np ck cf cs hc hF hU
  have I' : i_Rel (k + 4) (xc, nI nd, tj_xI xp, nI nc, xu, ob, su, ne, ki, fi, sd, bo, ta, cu, fo, ma) (xc, nI nd, tj_xI xp, nI nc, yb, ym, he, ne, ki, fi, sd, gi, so) := tj_in (tj_Ct_up hc) hF hU
  have no1 : (v1 < 0 ∨ nI 1728 ≤ v1) → wpX_extra (fun r u' => wpY_extra (fun r' v' => r' = r ∧ i_Rel (k + 4) u' v') (xc, nI nd, tj_xI xp, nI nc, yb, ym, he, ne, ki, fi, sd, gi, so) v1) (xc, nI nd, tj_xI xp, nI nc, xu, ob, su, ne, ki, fi, sd, bo, ta, cu, fo, ma) v1 := by
    intro h
    unfold wpX_extra
    refine tj_xPn h (br_t rfl ?_)
    unfold wpY_extra
    exact tj_yPn h (br_f (by decide) ⟨rfl, I'⟩)
  rcases pk_ix v1 (n := 1728) (by decide) with h | h | ⟨p, hp, e⟩
  · exact no1 (Or.inl h)
  · exact no1 (Or.inr h)
  · subst e
    obtain ⟨hnd, hnc, hx, hob, hsu, hne, hki⟩ := hF
    have fin : i_Rel (k + 4) (xc, nI nd, nI p, nI nc, 0, ob, su, ne, ki, fi, sd, bo, ta, cu, fo, ma) (xc, nI nd, nI p, nI nc, yb, ym, he, ne, ki, fi, sd, gi, so) := tj_in (xp := some p) (tj_Ct_up hc) ⟨hnd, hnc, fun q e => by cases e; exact hp, hob, hsu, hne, hki⟩ (Or.inl rfl)
    unfold wpX_extra
    refine tj_xPy hp (br_f (by decide) ?_)
    cases xp with
    | none =>
      refine br_t rfl ?_
      unfold wX_extra_22 wpY_extra
      exact tj_yPy hp (br_t rfl (br_f (by decide) ⟨rfl, fin⟩))
    | some q =>
      have hq := hx q rfl
      refine br_f (tj_nIm1 (a := q) (by omega)) ?_
      unfold wX_extra_22 wpY_extra
      exact tj_yPy hp (br_t rfl (br_t (nI_pos' (n := q) (by omega)) ⟨rfl, fin⟩))
theorem i_vc_condition {k : Nat} {u : SX} {v : SY} (I : i_Rel k u v) (hk : k + 4 ≤ 2048) (v1 : Int32) (v2 : Int32) (v3 : Int32) : wpX_condition (fun r u' => wpY_condition (fun r' v' => r' = r ∧ i_Rel (k + 4) u' v') v v1 v2 v3) u v1 v2 v3 := by
  refine tj_el (P := fun u v => wpX_condition (fun r u' => wpY_condition (fun r' v' => r' = r ∧ i_Rel (k + 4) u' v') v v1 v2 v3) u v1 v2 v3) ?_ I
  intro xc nd nc xp xu yb ym ob su ne ki fi sd bo ta cu fo ma he gi so np ck cf cs hc hF hU
  have I' : i_Rel (k + 4) (xc, nI nd, tj_xI xp, nI nc, xu, ob, su, ne, ki, fi, sd, bo, ta, cu, fo, ma) (xc, nI nd, tj_xI xp, nI nc, yb, ym, he, ne, ki, fi, sd, gi, so) := tj_in (tj_Ct_up hc) hF hU
  unfold wpX_condition wpY_condition
  refine br_c (fun a1 => br_t a1 ⟨rfl, I'⟩) (fun a1 => br_c (fun a2 => ?_) (fun a2 => br_f a1 (br_f a2 ⟨rfl, I'⟩)))
  refine br_c (fun b1 => br_f a1 (br_t a2 (br_t b1 ⟨rfl, I'⟩))) (fun b1 => br_c (fun b2 => br_f a1 (br_t a2 (br_f b1 (br_t b2 ⟨rfl, I'⟩)))) (fun b2 => ?_))
  refine br_c (fun c1 => br_f a1 (br_t a2 (br_f b1 (br_f b2 (br_t c1 ⟨rfl, I'⟩))))) (fun c1 => br_c (fun c2 => ?_) (fun c2 => br_f a1 (br_t a2 (br_f b1 (br_f b2 (br_f c1 (br_f c2 ⟨rfl, I'⟩)))))))
  obtain ⟨hnd, hnc, hx, hob, hsu, hne, hki⟩ := hF
  obtain ⟨x1, l1, e1⟩ := nI_of2 (M := 2) (n := 2) (by decide) a1 a2
  obtain ⟨x2, l2, e2⟩ := nI_of2 (M := 11) (n := 11) (by decide) b1 (Int32.not_lt.mp b2)
  obtain ⟨x3, l3, e3⟩ := nI_of2 (M := 11) (n := 11) (by decide) c1 c2
  refine pk_eq nc 3 (fun h => br_f a1 (br_t a2 (br_f b1 (br_f b2 (br_f c1 (br_t c2 (br_f (nI_ge (a := 2) (by omega) (by omega)) ⟨rfl, I'⟩))))))) (fun h => ?_)
  have hi : vp_in (nI nc) 3 := vp_in_nI (by omega) (by omega)
  have cl : (nI nc).toNatClampNeg = nc := nI_clamp (by omega)
  rw [cl]
  refine ⟨hi, nm_e ⟨hi, nm_e ⟨hi, nm_e (nm_r (nI_1 nc) ?_)⟩⟩⟩
  refine br_f a1 (br_t a2 (br_f b1 (br_f b2 (br_f c1 (br_t c2 (br_t (nI_le (b := 2) (by omega) (by omega)) ?_))))))
  rw [cl]
  refine ⟨hi, nm_e ⟨hi, nm_e ⟨hi, nm_e (nm_r (nI_1 nc) ⟨rfl, ?_⟩)⟩⟩⟩
  subst e1 e2 e3
  refine tj_in (np := np) (ck := fun j => if j = nc then x1 else ck j) (cf := fun j => if j = nc then x2 else cf j) (cs := fun j => if j = nc then x3 else cs j) (tj_Ct_up hc) ⟨hnd, by omega, hx, hob, hsu, hne, fun j hj => ?_⟩ (Or.inl rfl)
  show upd ki nc (nI x1) j = nI (if j = nc then x1 else ck j) ∧ (if j = nc then x1 else ck j) ≤ 2 ∧ upd fi nc (nI x2) j = nI (if j = nc then x2 else cf j) ∧ (if j = nc then x2 else cf j) < 12 ∧ upd sd nc (nI x3) j = nI (if j = nc then x3 else cs j) ∧ (if j = nc then x3 else cs j) < 12
  by_cases z : j = nc
  · rw [z, pk_us, pk_us, pk_us, if_pos rfl, if_pos rfl, if_pos rfl]; exact ⟨rfl, l1, rfl, by omega, rfl, by omega⟩
  · rw [pk_un z, pk_un z, pk_un z, if_neg z, if_neg z, if_neg z]; exact hki j hj
theorem i_vc_drop {k : Nat} {u : SX} {v : SY} (I : i_Rel k u v) (hk : k + 4 ≤ 2048) : wpX_drop (fun r u' => wpY_drop (fun r' v' => r' = r ∧ i_Rel (k + 4) u' v') v) u := by
  refine tj_el (P := fun u v => wpX_drop (fun r u' => wpY_drop (fun r' v' => r' = r ∧ i_Rel (k + 4) u' v') v) u) ?_ I
  intro xc nd nc xp xu yb ym ob su ne ki fi sd bo ta cu fo ma he gi so np ck cf cs hc hF hU
  have I' : i_Rel (k + 4) (xc, nI nd, tj_xI xp, nI nc, xu, ob, su, ne, ki, fi, sd, bo, ta, cu, fo, ma) (xc, nI nd, tj_xI xp, nI nc, yb, ym, he, ne, ki, fi, sd, gi, so) := tj_in (tj_Ct_up hc) hF hU
  obtain ⟨hnd, hnc, hx, hob, hsu, hne, hki⟩ := hF
  unfold wpX_drop wpY_drop
  refine br_c (fun h => br_t h ⟨rfl, I'⟩) (fun h => ?_)
  obtain ⟨m, rfl⟩ : ∃ m, nd = m + 1 := ⟨nd - 1, by
    have : nd ≠ 0 := fun e => h (by rw [e]; rfl)
    omega⟩
  exact nm_r (nI_pred m) (br_f h (nm_r (nI_pred m) ⟨rfl, tj_in (tj_Ct_up hc) ⟨by omega, hnc, hx, hob, hsu, hne, hki⟩ (Or.inl rfl)⟩))
theorem i_vc_clear {k : Nat} {u : SX} {v : SY} (I : i_Rel k u v) (hk : k + 4 ≤ 2048) : wpX_clear (fun r u' => wpY_clear (fun r' v' => r' = r ∧ i_Rel (k + 4) u' v') v) u := by
  refine tj_el (P := fun u v => wpX_clear (fun r u' => wpY_clear (fun r' v' => r' = r ∧ i_Rel (k + 4) u' v') v) u) ?_ I
  intro xc nd nc xp xu yb ym ob su ne ki fi sd bo ta cu fo ma he gi so np ck cf cs hc hF hU
  obtain ⟨hnd, hnc, hx, hob, hsu, hne, hki⟩ := hF
  unfold wpX_clear wpY_clear
  exact ⟨rfl, tj_in (nd := 0) (nc := 0) (xp := none) (tj_Ct_up hc) ⟨by omega, by omega, fun p e => (nomatch e), hob, hsu, hne, hki⟩ (Or.inl rfl)⟩
theorem i_vc_statements {k : Nat} {u : SX} {v : SY} (I : i_Rel k u v) (hk : k + 4 ≤ 2048) : wpX_statements (fun r => wpY_statements (fun r' => r' = r ∧ i_Rel (k + 4) u v) v) u := by
  have I' := i_up I
  revert I'
  refine tj_el (P := fun u v => i_Rel (k + 4) u v → wpX_statements (fun r => wpY_statements (fun r' => r' = r ∧ i_Rel (k + 4) u v) v) u) ?_ I
  intro xc nd nc xp xu yb ym ob su ne ki fi sd bo ta cu fo ma he gi so np ck cf cs hc hF hU I'
  exact ⟨rfl, I'⟩
end
section
/-! folds and finds -/
noncomputable def tj_fo (P : Nat → Prop) (f : Int32 → Nat → Int32) : Nat → Int32
  | 0 => 0
  | n + 1 => @ite Int32 (P n) (Classical.propDecidable _) (f (tj_fo P f n) n) (tj_fo P f n)
theorem tj_fo_t {P : Nat → Prop} {f : Int32 → Nat → Int32} {n : Nat} (h : P n) : tj_fo P f (n + 1) = f (tj_fo P f n) n := if_pos h
theorem tj_fo_f {P : Nat → Prop} {f : Int32 → Nat → Int32} {n : Nat} (h : ¬ P n) : tj_fo P f (n + 1) = tj_fo P f n := if_neg h
theorem tj_fold {W : Nat → Int32 → Nat → Prop} {P : Nat → Prop} {f : Int32 → Nat → Int32} (e : Nat) (hs : ∀ n a k, k < e → (P k → W n (f a k) (k + 1)) → (¬ P k → W n a (k + 1)) → W (n + 1) a k) (hx : ∀ n, W (n + 1) (tj_fo P f e) e) : W (e + 1) 0 0 := by
  have key : ∀ m k, k + m = e → W (m + 1) (tj_fo P f k) k := by
    intro m
    induction m with
    | zero =>
      intro k hk
      have e' : k = e := by omega
      rw [e']
      exact hx 0
    | succ m ih =>
      intro k hk
      refine hs (m + 1) _ k (by omega) (fun hc => ?_) (fun hc => ?_)
      · rw [← tj_fo_t (f := f) hc]; exact ih (k + 1) (by omega)
      · rw [← tj_fo_f (f := f) hc]; exact ih (k + 1) (by omega)
  exact key e 0 (by omega)
theorem tj_find {W : Nat → Nat → Prop} {c : Nat → Prop} {E : Nat → Prop} {A : Prop} (e : Nat) (hs : ∀ n k, k < e → (¬ c k → W n (k + 1)) → (c k → E k) → W (n + 1) k) (hx : ∀ n, A → W (n + 1) e)
    (ht : (∀ k, k < e → ¬ c k) → A) (hf : ∀ q, q < e → c q → (∀ j, j < q → ¬ c j) → E q) : W (e + 1) 0 := by
  have key : ∀ m k, k + m = e → (∀ j, j < k → ¬ c j) → W (m + 1) k := by
    intro m
    induction m with
    | zero =>
      intro k hk hj
      have e' : k = e := by omega
      rw [e'] at hj ⊢
      exact hx 0 (ht hj)
    | succ m ih =>
      intro k hk hj
      refine hs (m + 1) k (by omega) (fun hc => ih (k + 1) (by omega) (fun j hj' => ?_)) (fun hc => hf k (by omega) hc hj)
      by_cases q : j = k
      · rw [q]; exact hc
      · exact hj j (by omega)
  exact key e 0 (by omega) (fun j hj => absurd hj (by omega))
/-! the facts, by an abstract set of statements -/
def tj_GX (H : Nat → Prop) (nd nc : Nat) (xp : Option Nat) (ob su ne ki fi sd : Nat → Int32) (np ck cf cs : Nat → Nat) : Prop :=
  nd ≤ 4 ∧ nc ≤ 3 ∧ (∀ p, xp = some p → p < 1728) ∧ (∀ r o, r < 32 → o < 8 → (bt (ob r) o = true ↔ H (8 * r + o))) ∧ (∀ r o, r < 32 → o < 8 → (bt (su (4 * o + r % 4)) (r / 4) = true ↔ H (8 * r + o))) ∧
  (∀ k, k < 4 → ne k = nI (np k) ∧ np k < 1728) ∧ (∀ i, i < 3 → ki i = nI (ck i) ∧ ck i ≤ 2 ∧ fi i = nI (cf i) ∧ cf i < 12 ∧ sd i = nI (cs i) ∧ cs i < 12)
def tj_GY (H : Nat → Prop) (nd nc : Nat) (xp : Option Nat) (he ne ki fi sd : Nat → Int32) (np ck cf cs : Nat → Nat) : Prop :=
  nd ≤ 4 ∧ nc ≤ 3 ∧ (∀ p, xp = some p → p < 1728) ∧ (∀ s, s < 256 → (he s = 0 ↔ ¬ H s)) ∧
  (∀ k, k < 4 → ne k = nI (np k) ∧ np k < 1728) ∧ (∀ i, i < 3 → ki i = nI (ck i) ∧ ck i ≤ 2 ∧ fi i = nI (cf i) ∧ cf i < 12 ∧ sd i = nI (cs i) ∧ cs i < 12)
theorem tj_F_X {nd nc : Nat} {xp : Option Nat} {ob su ne ki fi sd he : Nat → Int32} {np ck cf cs : Nat → Nat} (h : tj_F nd nc xp ob su ne ki fi sd he np ck cf cs) : tj_GX (fun s => ¬ he s = 0) nd nc xp ob su ne ki fi sd np ck cf cs := h
theorem tj_F_Y {nd nc : Nat} {xp : Option Nat} {ob su ne ki fi sd he : Nat → Int32} {np ck cf cs : Nat → Nat} (h : tj_F nd nc xp ob su ne ki fi sd he np ck cf cs) : tj_GY (fun s => ¬ he s = 0) nd nc xp he ne ki fi sd np ck cf cs := by
  obtain ⟨a1, a2, a3, _, _, a6, a7⟩ := h
  exact ⟨a1, a2, a3, fun s _ => ⟨fun e z => z e, fun z => Classical.byContradiction z⟩, a6, a7⟩
section TJQ
variable {xc xn xe xd xu : Int32} {ob su ne ki fi sd bo ta cu fo ma : Nat → Int32}
variable {yb ym : Int32} {he gi so : Nat → Int32} {H : Nat → Prop} {np ck cf cs : Nat → Nat} {xp : Option Nat} {nd nc : Nat}
theorem tj_rfX {post : SX → Prop} (G : tj_GX H nd nc xp ob su ne ki fi sd np ck cf cs) (hU : xu = 0 ∨ (xu = 1 ∧ ∀ q, q < 6561 → (tj_mk ma q ↔ tj_SS H nd np xp nc ck cf cs q)))
    (h : ∀ bo ta cu fo ma : Nat → Int32, (∀ q, q < 6561 → (tj_mk ma q ↔ tj_SS H nd np xp nc ck cf cs q)) → post (xc, nI nd, tj_xI xp, nI nc, 1, ob, su, ne, ki, fi, sd, bo, ta, cu, fo, ma)) : wpX_refresh post (xc, nI nd, tj_xI xp, nI nc, xu, ob, su, ne, ki, fi, sd, bo, ta, cu, fo, ma) := by
  obtain ⟨a1, a2, a3, a4, a5, a6, a7⟩ := G
  exact tj_xrf a4 a5 a6 a7 a1 a2 a3 hU h
theorem tj_wkY {post : Int32 → SY → Prop} (G : tj_GY H nd nc xp he ne ki fi sd np ck cf cs)
    (h : ∀ (yb ym : Int32) (gi so : Nat → Int32), (∀ q, q < 6561 → (so q = 0 ↔ ¬ tj_SS H nd np xp nc ck cf cs q)) → post (nI (tj_cn (tj_SS H nd np xp nc ck cf cs) 6561)) (xc, nI nd, tj_xI xp, nI nc, yb, ym, he, ne, ki, fi, sd, gi, so)) : wpY_work post (xc, nI nd, tj_xI xp, nI nc, yb, ym, he, ne, ki, fi, sd, gi, so) := by
  obtain ⟨a1, a2, a3, a4, a6, a7⟩ := G
  refine tj_ywk a1 a2 a3 a6 a7 a4 (fun yb ym gi so hs => h yb ym gi so (fun q hq => ?_))
  rw [hs q hq]
  by_cases z : tj_SS H nd np xp nc ck cf cs q
  · rw [tj_bt z]
    exact ⟨fun e => absurd e (by decide), fun e => absurd z e⟩
  · rw [tj_bf z]
    exact ⟨fun _ => z, fun _ => rfl⟩
/-! matching -/
theorem tj_ag8 {p s : Nat} : tj_ag (fun _ => 8) p s ↔ tj_ft p s := by
  constructor
  · intro h
    exact ⟨fun k hk h8 => tj_a1_c (h.1 k hk) h8, tj_a2_pp h.2⟩
  · intro h
    refine ⟨fun k hk => ?_, tj_pp_a2 h.2⟩
    unfold tj_a1
    by_cases h8 : tj_ent p k < 8
    · rw [tj_val_c h8]; exact Or.inr (h.1 k hk h8)
    · rw [tj_val_v (by omega)]; exact Or.inl rfl
theorem tj_xma {post : Int32 → SX → Prop} {p : Nat} (hp : p < 1728) (hob : ∀ r o, r < 32 → o < 8 → (bt (ob r) o = true ↔ H (8 * r + o))) (h : ∀ bo : Nat → Int32, post (nI (tj_cn (fun s => H s ∧ tj_ft p s) 256)) (xc, xn, xe, xd, xu, ob, su, ne, ki, fi, sd, bo, ta, cu, fo, ma)) : wpX_matching post (xc, xn, xe, xd, xu, ob, su, ne, ki, fi, sd, bo, ta, cu, fo, ma) (nI p) := by
  have l11 : ∀ m v (bo : Nat → Int32), v + m = 4 → (∀ i, i < v → bo i = nI 8) → wX_matching_11 post (nI p) xc xn xe xd xu (m + 1) (nI v) ob su ne ki fi sd bo ta cu fo ma := by
    intro m
    induction m with
    | zero =>
      intro v bo hv hb
      refine br_t (nI_le (a := 4) (by omega) (by omega)) ⟨257, ?_⟩
      refine tj_cnt (W := fun n a s => wX_matching_34 post (nI p) xc xn xe xd xu ob su ne ki fi sd bo ta cu fo ma n (nI a) (nI s)) (c := fun s => H s ∧ tj_ft p s) (A := True) 256 (fun n a s hs _ h1 h0 => ?_) (fun n _ => br_t (nI_le (a := 256) (b := 256) (by omega) (by omega)) (h bo)) trivial
      refine br_f (nI_ge (b := 256) hs (by decide)) ?_
      refine tj_xh hs hob (fun hH => br_f (by decide) ?_) (fun hH => br_t rfl (nm_r (nI_1 s) (h0 (fun z => hH z.1))))
      exact tj_xag (g := fun _ => 8) (d := 0) (fun _ _ => Nat.le_refl 8) hp hs (by omega) (fun v hv => by rw [show 4 * 0 + v = v from by omega]; exact hb v (by omega)) rfl
        (fun ag => br_f (by decide) (nm_r (nI_1 a) (nm_r (nI_1 s) (h1 ⟨hH, tj_ag8.mp ag⟩)))) (fun ag => br_t rfl (nm_r (nI_1 s) (h0 (fun z => ag (tj_ag8.mpr z.2)))))
    | succ m ih =>
      intro v bo hv hb
      refine br_f (nI_ge (b := 4) (by omega) (by decide)) ⟨vp_in_nI (by omega) (by omega), nm_r (e' := upd bo v (nI 8)) (by rw [nI_clamp (by omega)]; rfl) (nm_r (nI_1 v) (ih (v + 1) _ (by omega) (fun i hi => ?_)))⟩
      by_cases z : i = v
      · rw [z, pk_us]
      · rw [pk_un z]; exact hb i (by omega)
  unfold wpX_matching
  exact tj_xPy hp (br_f (by decide) ⟨5, l11 4 0 bo (by omega) (fun i hi => absurd hi (by omega))⟩)
theorem tj_yma2 {post : Int32 → Prop} {p : Nat} (hp : p < 1728) (hhe : ∀ s, s < 256 → (he s = 0 ↔ ¬ H s)) (h : post (nI (tj_cn (fun s => H s ∧ tj_ft p s) 256))) : wpY_matching post (xc, xn, xe, xd, yb, ym, he, ne, ki, fi, sd, gi, so) (nI p) := by
  unfold wpY_matching
  refine tj_yPy hp (br_t rfl ⟨257, ?_⟩)
  refine tj_cnt (W := fun n a s => wY_matching_14 post (nI p) xc xn xe xd yb ym he ne ki fi sd gi so n (nI a) (nI s)) (c := fun s => H s ∧ tj_ft p s) (A := True) 256 (fun n a s hs _ h1 h0 => ?_) (fun n _ => br_t (nI_le (a := 256) (b := 256) (by omega) (by omega)) h) trivial
  refine br_f (nI_ge (b := 256) hs (by decide)) ?_
  rw [nI_clamp (n := s) (by omega)]
  refine ⟨vp_in_nI hs (by omega), ek_if (hhe s hs) (fun hH => nm_r (nI_1 s) (h0 (fun z => hH z.1))) (fun hH => ?_)⟩
  exact tj_yft hp hs (fun ft => br_f (by decide) (nm_r (nI_1 a) (nm_r (nI_1 s) (h1 ⟨Classical.byContradiction hH, ft⟩)))) (fun ft => br_t rfl (nm_r (nI_1 s) (h0 (fun z => ft z.2))))
/-! solutions, next, isSolution -/
theorem tj_xsl {post : Int32 → SX → Prop} (G : tj_GX H nd nc xp ob su ne ki fi sd np ck cf cs) (hU : xu = 0 ∨ (xu = 1 ∧ ∀ q, q < 6561 → (tj_mk ma q ↔ tj_SS H nd np xp nc ck cf cs q)))
    (h : ∀ bo ta cu fo ma : Nat → Int32, (∀ q, q < 6561 → (tj_mk ma q ↔ tj_SS H nd np xp nc ck cf cs q)) → post (nI (tj_cn (tj_SS H nd np xp nc ck cf cs) 6561)) (xc, nI nd, tj_xI xp, nI nc, 1, ob, su, ne, ki, fi, sd, bo, ta, cu, fo, ma)) : wpX_solutions post (xc, nI nd, tj_xI xp, nI nc, xu, ob, su, ne, ki, fi, sd, bo, ta, cu, fo, ma) := by
  unfold wpX_solutions
  refine tj_rfX G hU (fun bo ta cu fo ma hm => ⟨6562, ?_⟩)
  refine tj_cnt (W := fun n a q => wX_solutions_8 post xc (nI nd) (tj_xI xp) (nI nc) 1 ob su ne ki fi sd bo ta cu fo ma n (nI a) (nI q)) (c := tj_SS H nd np xp nc ck cf cs) (A := True) 6561 (fun n a q hq _ h1 h0 => ?_) (fun n _ => br_t (nI_le (a := 6561) (b := 6561) (by omega) (by omega)) (h bo ta cu fo ma hm)) trivial
  refine br_f (nI_ge (b := 6561) hq (by decide)) ?_
  exact tj_xm hq (fun m => br_f (by decide) (nm_r (nI_1 a) (nm_r (nI_1 q) (h1 ((hm q hq).mp m))))) (fun m => br_t rfl (nm_r (e' := nI a) (Int32.add_zero _) (nm_r (nI_1 q) (h0 (fun z => m ((hm q hq).mpr z))))))
theorem tj_xnx {post : Int32 → SX → Prop} {x : Int32} (G : tj_GX H nd nc xp ob su ne ki fi sd np ck cf cs) (hU : xu = 0 ∨ (xu = 1 ∧ ∀ q, q < 6561 → (tj_mk ma q ↔ tj_SS H nd np xp nc ck cf cs q)))
    (h0 : ∀ bo ta cu fo ma : Nat → Int32, (∀ q, q < 6561 → (tj_mk ma q ↔ tj_SS H nd np xp nc ck cf cs q)) → (∀ q, q < 6561 → ¬ (¬ nI q ≤ x ∧ tj_SS H nd np xp nc ck cf cs q)) → post (-1) (xc, nI nd, tj_xI xp, nI nc, 1, ob, su, ne, ki, fi, sd, bo, ta, cu, fo, ma))
    (h1 : ∀ bo ta cu fo ma : Nat → Int32, (∀ q, q < 6561 → (tj_mk ma q ↔ tj_SS H nd np xp nc ck cf cs q)) → ∀ q, q < 6561 → (¬ nI q ≤ x ∧ tj_SS H nd np xp nc ck cf cs q) → (∀ j, j < q → ¬ (¬ nI j ≤ x ∧ tj_SS H nd np xp nc ck cf cs j)) → post (nI q) (xc, nI nd, tj_xI xp, nI nc, 1, ob, su, ne, ki, fi, sd, bo, ta, cu, fo, ma)) :
    wpX_next post (xc, nI nd, tj_xI xp, nI nc, xu, ob, su, ne, ki, fi, sd, bo, ta, cu, fo, ma) x := by
  unfold wpX_next
  refine tj_rfX G hU (fun bo ta cu fo ma hm => ?_)
  have lp : ∀ y : Int32, (∀ q, q < 6561 → (nI q ≤ y ↔ nI q ≤ x)) → wX_next_17 post y xc (nI nd) (tj_xI xp) (nI nc) 1 ob su ne ki fi sd bo ta cu fo ma 6562 0 := by
    intro y hy
    refine tj_find (W := fun n q => wX_next_17 post y xc (nI nd) (tj_xI xp) (nI nc) 1 ob su ne ki fi sd bo ta cu fo ma n (nI q)) (c := fun q => ¬ nI q ≤ x ∧ tj_SS H nd np xp nc ck cf cs q) (E := fun q => post (nI q) (xc, nI nd, tj_xI xp, nI nc, 1, ob, su, ne, ki, fi, sd, bo, ta, cu, fo, ma)) (A := post (-1) (xc, nI nd, tj_xI xp, nI nc, 1, ob, su, ne, ki, fi, sd, bo, ta, cu, fo, ma)) 6561 (fun n q hq s0 s1 => ?_) (fun n a => br_t (nI_le (a := 6561) (b := 6561) (by omega) (by omega)) a) (h0 bo ta cu fo ma hm) (h1 bo ta cu fo ma hm)
    refine br_f (nI_ge (b := 6561) hq (by decide)) (ek_if (hy q hq) (fun l => nm_r (nI_1 q) (s0 (fun z => z.1 l))) (fun l => ?_))
    exact tj_xm hq (fun m => br_f (by decide) (s1 ⟨l, (hm q hq).mp m⟩)) (fun m => br_t rfl (nm_r (nI_1 q) (s0 (fun z => m ((hm q hq).mpr z.2)))))
  refine br_c (fun _ => ⟨6562, lp x (fun _ _ => Iff.rfl)⟩) (fun hx => ⟨6562, lp (-1) (fun q hq => ?_)⟩)
  have e1 : (-1 : Int32).toInt = -1 := by decide
  rw [Int32.le_iff_toInt_le, e1] at hx
  rw [Int32.le_iff_toInt_le, Int32.le_iff_toInt_le, e1, nI_toInt (by omega)]
  omega
theorem tj_ynx {post : Int32 → SY → Prop} {x : Int32} (G : tj_GY H nd nc xp he ne ki fi sd np ck cf cs)
    (h0 : ∀ (yb ym : Int32) (gi so : Nat → Int32), (∀ q, q < 6561 → ¬ (¬ nI q ≤ x ∧ tj_SS H nd np xp nc ck cf cs q)) → post (-1) (xc, nI nd, tj_xI xp, nI nc, yb, ym, he, ne, ki, fi, sd, gi, so))
    (h1 : ∀ (yb ym : Int32) (gi so : Nat → Int32), ∀ q, q < 6561 → (¬ nI q ≤ x ∧ tj_SS H nd np xp nc ck cf cs q) → (∀ j, j < q → ¬ (¬ nI j ≤ x ∧ tj_SS H nd np xp nc ck cf cs j)) → post (nI q) (xc, nI nd, tj_xI xp, nI nc, yb, ym, he, ne, ki, fi, sd, gi, so)) :
    wpY_next post (xc, nI nd, tj_xI xp, nI nc, yb, ym, he, ne, ki, fi, sd, gi, so) x := by
  unfold wpY_next
  refine tj_wkY G (fun yb ym gi so hm => ⟨6562, ?_⟩)
  refine tj_find (W := fun n q => wY_next_7 post x xc (nI nd) (tj_xI xp) (nI nc) yb ym he ne ki fi sd gi so n (nI q)) (c := fun q => ¬ nI q ≤ x ∧ tj_SS H nd np xp nc ck cf cs q) (E := fun q => post (nI q) (xc, nI nd, tj_xI xp, nI nc, yb, ym, he, ne, ki, fi, sd, gi, so)) (A := post (-1) (xc, nI nd, tj_xI xp, nI nc, yb, ym, he, ne, ki, fi, sd, gi, so)) 6561 (fun n q hq s0 s1 => ?_) (fun n a => br_t (nI_le (a := 6561) (b := 6561) (by omega) (by omega)) a) (h0 yb ym gi so) (h1 yb ym gi so)
  refine br_f (nI_ge (b := 6561) hq (by decide)) (br_c (fun l => nm_r (nI_1 q) (s0 (fun z => z.1 l))) (fun l => ?_))
  rw [nI_clamp (n := q) (by omega)]
  exact ⟨vp_in_nI hq (by omega), ek_if (hm q hq) (fun m => nm_r (nI_1 q) (s0 (fun z => m z.2))) (fun m => s1 ⟨l, Classical.byContradiction m⟩)⟩
end TJQ
end
section
section TJQ
variable {xc xn xe xd xu : Int32} {ob su ne ki fi sd bo ta cu fo ma : Nat → Int32}
variable {yb ym : Int32} {he gi so : Nat → Int32} {H : Nat → Prop} {np ck cf cs : Nat → Nat} {xp : Option Nat} {nd nc : Nat}
/-! values, having -/
theorem tj_xvl {post : Int32 → SX → Prop} {v : Nat} (hv : v < 4) (G : tj_GX H nd nc xp ob su ne ki fi sd np ck cf cs) (hU : xu = 0 ∨ (xu = 1 ∧ ∀ q, q < 6561 → (tj_mk ma q ↔ tj_SS H nd np xp nc ck cf cs q)))
    (h : ∀ bo ta cu fo ma : Nat → Int32, (∀ q, q < 6561 → (tj_mk ma q ↔ tj_SS H nd np xp nc ck cf cs q)) → post (tj_fo (tj_SS H nd np xp nc ck cf cs) (fun a q => a ||| ((1 : Int32) <<< (nI (tj_dig q v) &&& 31))) 6561) (xc, nI nd, tj_xI xp, nI nc, 1, ob, su, ne, ki, fi, sd, bo, ta, cu, fo, ma)) :
    wpX_values post (xc, nI nd, tj_xI xp, nI nc, xu, ob, su, ne, ki, fi, sd, bo, ta, cu, fo, ma) (nI v) := by
  unfold wpX_values
  refine tj_xVy hv (br_f (by decide) ?_)
  refine tj_rfX G hU (fun bo ta cu fo ma hm => ⟨6562, ?_⟩)
  refine tj_fold (W := fun n a q => wX_values_17 post (nI v) xc (nI nd) (tj_xI xp) (nI nc) 1 ob su ne ki fi sd bo ta cu fo ma n a (nI q)) (P := tj_SS H nd np xp nc ck cf cs) (f := fun a q => a ||| ((1 : Int32) <<< (nI (tj_dig q v) &&& 31))) 6561 (fun n a q hq h1 h0 => ?_) (fun n => br_t (nI_le (a := 6561) (b := 6561) (by omega) (by omega)) (h bo ta cu fo ma hm))
  refine br_f (nI_ge (b := 6561) hq (by decide)) ?_
  exact tj_xm hq (fun m => br_f (by decide) (tj_xdg hq hv (nm_e (nm_r (nI_1 q) (h1 ((hm q hq).mp m)))))) (fun m => br_t rfl (nm_r (nI_1 q) (h0 (fun z => m ((hm q hq).mpr z)))))
theorem tj_yvl {post : Int32 → SY → Prop} {v : Nat} (hv : v < 4) (G : tj_GY H nd nc xp he ne ki fi sd np ck cf cs)
    (h : ∀ (yb ym : Int32) (gi so : Nat → Int32), post (tj_fo (tj_SS H nd np xp nc ck cf cs) (fun a q => a ||| ((1 : Int32) <<< (nI (tj_dig q v) &&& 31))) 6561) (xc, nI nd, tj_xI xp, nI nc, yb, ym, he, ne, ki, fi, sd, gi, so)) :
    wpY_values post (xc, nI nd, tj_xI xp, nI nc, yb, ym, he, ne, ki, fi, sd, gi, so) (nI v) := by
  unfold wpY_values
  refine tj_yVy hv (br_t rfl ?_)
  refine tj_wkY G (fun yb ym gi so hm => ⟨6562, ?_⟩)
  refine tj_fold (W := fun n a q => wY_values_19 post (nI v) xc (nI nd) (tj_xI xp) (nI nc) yb ym he ne ki fi sd gi so n a (nI q)) (P := tj_SS H nd np xp nc ck cf cs) (f := fun a q => a ||| ((1 : Int32) <<< (nI (tj_dig q v) &&& 31))) 6561 (fun n a q hq h1 h0 => ?_) (fun n => br_t (nI_le (a := 6561) (b := 6561) (by omega) (by omega)) (h yb ym gi so))
  refine br_f (nI_ge (b := 6561) hq (by decide)) ?_
  rw [nI_clamp (n := q) (by omega)]
  exact ⟨vp_in_nI hq (by omega), ek_if (hm q hq) (fun m => nm_r (nI_1 q) (h0 m)) (fun m => tj_ydg hq hv (nm_e (nm_r (nI_1 q) (h1 (Classical.byContradiction m)))))⟩
theorem tj_xhv {post : Int32 → SX → Prop} {v x : Nat} (hv : v < 4) (hx : x ≤ 8) (G : tj_GX H nd nc xp ob su ne ki fi sd np ck cf cs) (hU : xu = 0 ∨ (xu = 1 ∧ ∀ q, q < 6561 → (tj_mk ma q ↔ tj_SS H nd np xp nc ck cf cs q)))
    (h : ∀ bo ta cu fo ma : Nat → Int32, (∀ q, q < 6561 → (tj_mk ma q ↔ tj_SS H nd np xp nc ck cf cs q)) → post (nI (tj_cn (fun q => tj_SS H nd np xp nc ck cf cs q ∧ tj_dig q v = x) 6561)) (xc, nI nd, tj_xI xp, nI nc, 1, ob, su, ne, ki, fi, sd, bo, ta, cu, fo, ma)) :
    wpX_having post (xc, nI nd, tj_xI xp, nI nc, xu, ob, su, ne, ki, fi, sd, bo, ta, cu, fo, ma) (nI v) (nI x) := by
  unfold wpX_having
  refine tj_xVy hv (br_f (by decide) (br_f (nI_pos (by omega)) (br_t (nI_le (b := 8) hx (by omega)) ?_)))
  refine tj_rfX G hU (fun bo ta cu fo ma hm => ⟨6562, ?_⟩)
  refine tj_cnt (W := fun n a q => wX_having_31 post (nI v) (nI x) xc (nI nd) (tj_xI xp) (nI nc) 1 ob su ne ki fi sd bo ta cu fo ma n (nI a) (nI q)) (c := fun q => tj_SS H nd np xp nc ck cf cs q ∧ tj_dig q v = x) (A := True) 6561 (fun n a q hq _ h1 h0 => ?_) (fun n _ => br_t (nI_le (a := 6561) (b := 6561) (by omega) (by omega)) (h bo ta cu fo ma hm)) trivial
  have hd := tj_dig_le (v := v) hq
  refine br_f (nI_ge (b := 6561) hq (by decide)) ?_
  refine tj_xm hq (fun m => br_f (by decide) (tj_xdg hq hv ?_)) (fun m => br_t rfl (nm_r (e' := nI a) (Int32.add_zero _) (nm_r (nI_1 q) (h0 (fun z => m ((hm q hq).mpr z.1))))))
  exact pk_eq (tj_dig q v) x (fun e => nm_r (nI_1 a) (nm_r (nI_1 q) (h1 ⟨(hm q hq).mp m, e⟩))) (fun e => nm_r (e' := nI a) (Int32.add_zero _) (nm_r (nI_1 q) (h0 (fun z => e z.2))))
theorem tj_yhv {post : Int32 → SY → Prop} {v x : Nat} (hv : v < 4) (hx : x ≤ 8) (G : tj_GY H nd nc xp he ne ki fi sd np ck cf cs)
    (h : ∀ (yb ym : Int32) (gi so : Nat → Int32), post (nI (tj_cn (fun q => tj_SS H nd np xp nc ck cf cs q ∧ tj_dig q v = x) 6561)) (xc, nI nd, tj_xI xp, nI nc, yb, ym, he, ne, ki, fi, sd, gi, so)) :
    wpY_having post (xc, nI nd, tj_xI xp, nI nc, yb, ym, he, ne, ki, fi, sd, gi, so) (nI v) (nI x) := by
  unfold wpY_having
  refine tj_yVy hv (br_t rfl (br_f (nI_pos (by omega)) (br_t (nI_le (b := 8) hx (by omega)) ?_)))
  refine tj_wkY G (fun yb ym gi so hm => ⟨6562, ?_⟩)
  refine tj_cnt (W := fun n a q => wY_having_33 post (nI v) (nI x) xc (nI nd) (tj_xI xp) (nI nc) yb ym he ne ki fi sd gi so n (nI a) (nI q)) (c := fun q => tj_SS H nd np xp nc ck cf cs q ∧ tj_dig q v = x) (A := True) 6561 (fun n a q hq _ h1 h0 => ?_) (fun n _ => br_t (nI_le (a := 6561) (b := 6561) (by omega) (by omega)) (h yb ym gi so)) trivial
  have hd := tj_dig_le (v := v) hq
  refine br_f (nI_ge (b := 6561) hq (by decide)) ?_
  rw [nI_clamp (n := q) (by omega)]
  refine ⟨vp_in_nI hq (by omega), ek_if (hm q hq) (fun m => nm_r (nI_1 q) (h0 (fun z => m z.1))) (fun m => tj_ydg hq hv ?_)⟩
  exact pk_eq (tj_dig q v) x (fun e => nm_r (nI_1 a) (nm_r (nI_1 q) (h1 ⟨Classical.byContradiction m, e⟩))) (fun e => nm_r (nI_1 q) (h0 (fun z => e z.2)))
/-! pairs -/
def tj_mt (S : Nat → Prop) (v w x y : Nat) : Prop := ∃ q, q < 6561 ∧ S q ∧ tj_dig q v = x ∧ tj_dig q w = y
noncomputable def tj_tt (S : Nat → Prop) (v w : Nat) : Nat → Nat
  | 0 => 0
  | x + 1 => tj_tt S v w x + tj_cn (tj_mt S v w x) 9
theorem tj_fo_b {P : Nat → Prop} {d : Nat → Nat} {i : Nat} (hi : i < 32) : ∀ n, (∀ q, q < n → d q < 32) → (bt (tj_fo P (fun a q => a ||| ((1 : Int32) <<< (nI (d q) &&& 31))) n) i = true ↔ ∃ q, q < n ∧ P q ∧ d q = i) := by
  intro n
  induction n with
  | zero =>
    intro _
    show bt 0 i = true ↔ _
    rw [b_0]
    exact ⟨fun z => absurd z (by decide), fun ⟨q, h, _⟩ => absurd h (by omega)⟩
  | succ n ih =>
    intro hd
    have ih' := ih (fun q hq => hd q (by omega))
    by_cases p : P n
    · rw [tj_fo_t p, tj_set (hd n (by omega)) hi, ih']
      constructor
      · rintro (⟨q, h1, h2, h3⟩ | z)
        · exact ⟨q, by omega, h2, h3⟩
        · exact ⟨n, by omega, p, z.symm⟩
      · intro ⟨q, h1, h2, h3⟩
        by_cases e : q = n
        · rw [e] at h3; exact Or.inr h3.symm
        · exact Or.inl ⟨q, by omega, h2, h3⟩
    · rw [tj_fo_f p, ih']
      constructor
      · intro ⟨q, h1, h2, h3⟩
        exact ⟨q, by omega, h2, h3⟩
      · intro ⟨q, h1, h2, h3⟩
        by_cases e : q = n
        · rw [e] at h2; exact absurd h2 p
        · exact ⟨q, by omega, h2, h3⟩
theorem tj_x88 {post : Int32 → SX → Prop} {J : Int32 → Int32 → Prop} {x1 x2 seen : Int32} {P : Nat → Prop} {x t : Nat} (hP : ∀ i, i < 9 → (bt seen i = true ↔ P i)) (hJ : J (nI (t + tj_cn P 9)) (nI (x + 1))) :
    ∀ m y, y + m = 9 → wX_pairs_88 post J x1 x2 (nI x) seen xc xn xe xd xu ob su ne ki fi sd bo ta cu fo ma (m + 1) (nI (t + tj_cn P y)) (nI y) := by
  intro m
  induction m with
  | zero =>
    intro y hy
    have e : y = 9 := by omega
    subst e
    exact br_t (nI_lt (a := 8) (b := 9) (by omega) (by omega)) (nm_r (nI_1 x) hJ)
  | succ m ih =>
    intro y hy
    refine br_f (nI_nlt (b := y) (a := 8) (by omega) (by omega)) (nm_r (e' := nI (t + tj_cn P (y + 1))) ?_ (nm_r (nI_1 y) (ih (y + 1) (by omega))))
    have q := hP y (by omega)
    rw [tj_and1, tj_sh0 _ (by omega)]
    by_cases z : P y
    · rw [if_pos (q.mpr z), tj_cn_t z, nI_1]; rfl
    · rw [if_neg (fun w => z (q.mp w)), tj_cn_f z]; exact Int32.add_zero _
theorem tj_xpr {post : Int32 → SX → Prop} {v w : Nat} (hv : v < 4) (hw : w < 4) (G : tj_GX H nd nc xp ob su ne ki fi sd np ck cf cs) (hU : xu = 0 ∨ (xu = 1 ∧ ∀ q, q < 6561 → (tj_mk ma q ↔ tj_SS H nd np xp nc ck cf cs q)))
    (h : ∀ bo ta cu fo ma : Nat → Int32, (∀ q, q < 6561 → (tj_mk ma q ↔ tj_SS H nd np xp nc ck cf cs q)) → post (nI (tj_tt (tj_SS H nd np xp nc ck cf cs) v w 9)) (xc, nI nd, tj_xI xp, nI nc, 1, ob, su, ne, ki, fi, sd, bo, ta, cu, fo, ma)) :
    wpX_pairs post (xc, nI nd, tj_xI xp, nI nc, xu, ob, su, ne, ki, fi, sd, bo, ta, cu, fo, ma) (nI v) (nI w) := by
  unfold wpX_pairs
  refine tj_xVy hv (br_f (by decide) (tj_xVy hw (br_f (by decide) ?_)))
  refine tj_rfX G hU (fun bo ta cu fo ma hm => ⟨10, ?_⟩)
  have l25 : ∀ m x, x + m = 9 → wX_pairs_25 post (nI v) (nI w) xc (nI nd) (tj_xI xp) (nI nc) 1 ob su ne ki fi sd bo ta cu fo ma (m + 1) (nI (tj_tt (tj_SS H nd np xp nc ck cf cs) v w x)) (nI x) := by
    intro m
    induction m with
    | zero =>
      intro x hx
      have e : x = 9 := by omega
      subst e
      exact br_t (nI_lt (a := 8) (b := 9) (by omega) (by omega)) (h bo ta cu fo ma hm)
    | succ m ih =>
      intro x hx
      refine br_f (nI_nlt (b := x) (a := 8) (by omega) (by omega)) ⟨6562, ?_⟩
      refine tj_fold (W := fun n a q => wX_pairs_38 post (wX_pairs_25 post (nI v) (nI w) xc (nI nd) (tj_xI xp) (nI nc) 1 ob su ne ki fi sd bo ta cu fo ma (m + 1)) (nI v) (nI w) (nI (tj_tt (tj_SS H nd np xp nc ck cf cs) v w x)) (nI x) xc (nI nd) (tj_xI xp) (nI nc) 1 ob su ne ki fi sd bo ta cu fo ma n a (nI q)) (P := fun q => tj_SS H nd np xp nc ck cf cs q ∧ tj_dig q v = x) (f := fun a q => a ||| ((1 : Int32) <<< (nI (tj_dig q w) &&& 31))) 6561 (fun n a q hq h1 h0 => ?_) (fun n => br_t (nI_le (a := 6561) (b := 6561) (by omega) (by omega)) ⟨10, ?_⟩)
      · have hd := tj_dig_le (v := v) hq
        refine br_f (nI_ge (b := 6561) hq (by decide)) ?_
        refine tj_xm hq (fun mk => br_f (by decide) (tj_xdg hq hv ?_)) (fun mk => br_t rfl (nm_r (nI_1 q) (h0 (fun z => mk ((hm q hq).mpr z.1)))))
        exact pk_eq (tj_dig q v) x (fun e => tj_xdg hq hw (nm_e (nm_r (nI_1 q) (h1 ⟨(hm q hq).mp mk, e⟩)))) (fun e => nm_r (nI_1 q) (h0 (fun z => e z.2)))
      · refine tj_x88 (P := tj_mt (tj_SS H nd np xp nc ck cf cs) v w x) (t := tj_tt (tj_SS H nd np xp nc ck cf cs) v w x) (fun i hi => ?_) (ih (x + 1) (by omega)) 9 0 (by omega)
        rw [tj_fo_b (d := fun q => tj_dig q w) (by omega) 6561 (fun q hq => by have := tj_dig_le (v := w) hq; show tj_dig q w < 32; omega)]
        constructor
        · intro ⟨q, q1, q2, q3⟩
          exact ⟨q, q1, q2.1, q2.2, q3⟩
        · intro ⟨q, q1, q2, q3, q4⟩
          exact ⟨q, q1, ⟨q2, q3⟩, q4⟩
  exact l25 9 0 (by omega)
theorem tj_yme {post : Int32 → Prop} {S : Nat → Prop} {v w x y : Nat} (hv : v < 4) (hw : w < 4) (hx : x < 9) (hy : y < 9) (hm : ∀ q, q < 6561 → (so q = 0 ↔ ¬ S q)) (h1 : tj_mt S v w x y → post 1) (h0 : ¬ tj_mt S v w x y → post 0) :
    wpY_met post (xc, xn, xe, xd, yb, ym, he, ne, ki, fi, sd, gi, so) (nI v) (nI x) (nI w) (nI y) := by
  refine Exists.intro 6562 ?_
  refine tj_all (W := fun n q => wY_met_3 post (nI v) (nI x) (nI w) (nI y) xc xn xe xd yb ym he ne ki fi sd gi so n (nI q)) (c := fun q => ¬ (S q ∧ tj_dig q v = x ∧ tj_dig q w = y)) (E := post 1) (A := post 0) 6561 (fun n q hq s1 s0 => ?_) (fun n a => br_t (nI_le (a := 6561) (b := 6561) (by omega) (by omega)) a) (fun z => h0 (fun ⟨q, q1, q2⟩ => z q q1 q2)) (fun z => h1 (Classical.byContradiction fun y => z (fun q q1 q2 => y ⟨q, q1, q2⟩)))
  have d1 := tj_dig_le (v := v) hq
  have d2 := tj_dig_le (v := w) hq
  refine br_f (nI_ge (b := 6561) hq (by decide)) ?_
  rw [nI_clamp (n := q) (by omega)]
  refine ⟨vp_in_nI hq (by omega), ek_if (hm q hq) (fun m => nm_r (nI_1 q) (s1 (fun z => m z.1))) (fun m => tj_ydg hq hv ?_)⟩
  refine pk_eq (tj_dig q v) x (fun e => tj_ydg hq hw ?_) (fun e => nm_r (nI_1 q) (s1 (fun z => e z.2.1)))
  exact pk_eq (tj_dig q w) y (fun e' => s0 (fun z => z ⟨Classical.byContradiction m, e, e'⟩)) (fun e' => nm_r (nI_1 q) (s1 (fun z => e' z.2.2)))
theorem tj_ypr {post : Int32 → SY → Prop} {v w : Nat} (hv : v < 4) (hw : w < 4) (G : tj_GY H nd nc xp he ne ki fi sd np ck cf cs)
    (h : ∀ (yb ym : Int32) (gi so : Nat → Int32), post (nI (tj_tt (tj_SS H nd np xp nc ck cf cs) v w 9)) (xc, nI nd, tj_xI xp, nI nc, yb, ym, he, ne, ki, fi, sd, gi, so)) :
    wpY_pairs post (xc, nI nd, tj_xI xp, nI nc, yb, ym, he, ne, ki, fi, sd, gi, so) (nI v) (nI w) := by
  unfold wpY_pairs
  refine tj_yVy hv (br_t rfl (tj_yVy hw (br_t rfl ?_)))
  refine tj_wkY G (fun yb ym gi so hm => ⟨10, ?_⟩)
  have l28 : ∀ m x, x + m = 9 → wY_pairs_28 post (nI v) (nI w) xc (nI nd) (tj_xI xp) (nI nc) yb ym he ne ki fi sd gi so (m + 1) (nI (tj_tt (tj_SS H nd np xp nc ck cf cs) v w x)) (nI x) := by
    intro m
    induction m with
    | zero =>
      intro x hx
      have e : x = 9 := by omega
      subst e
      exact br_t (nI_le (a := 9) (b := 9) (by omega) (by omega)) (h yb ym gi so)
    | succ m ih =>
      intro x hx
      refine br_f (nI_ge (b := 9) (by omega) (by decide)) ⟨10, ?_⟩
      have l38 : ∀ m' y, y + m' = 9 → wY_pairs_38 post (wY_pairs_28 post (nI v) (nI w) xc (nI nd) (tj_xI xp) (nI nc) yb ym he ne ki fi sd gi so (m + 1)) (nI v) (nI w) (nI x) xc (nI nd) (tj_xI xp) (nI nc) yb ym he ne ki fi sd gi so (m' + 1) (nI (tj_tt (tj_SS H nd np xp nc ck cf cs) v w x + tj_cn (tj_mt (tj_SS H nd np xp nc ck cf cs) v w x) y)) (nI y) := by
        intro m'
        induction m' with
        | zero =>
          intro y hy
          have e : y = 9 := by omega
          subst e
          exact br_t (nI_le (a := 9) (b := 9) (by omega) (by omega)) (nm_r (nI_1 x) (ih (x + 1) (by omega)))
        | succ m' ih' =>
          intro y hy
          refine br_f (nI_ge (b := 9) (by omega) (by decide)) ?_
          refine tj_yme hv hw (by omega) (by omega) hm (fun z => br_f (by decide) ?_) (fun z => br_t rfl ?_)
          · refine nm_r (nI_1 _) (nm_r (nI_1 y) ?_)
            have := ih' (y + 1) (by omega)
            rw [tj_cn_t z] at this
            exact this
          · refine nm_r (nI_1 y) ?_
            have := ih' (y + 1) (by omega)
            rw [tj_cn_f z] at this
            exact this
      exact l38 9 0 (by omega)
  exact l28 9 0 (by omega)
end TJQ
end
section
/-! vital -/
theorem tj_ho_H {H H' : Nat → Prop} (h : ∀ s, s < 256 → (H s ↔ H' s)) {f : Nat → Nat} {p : Nat} (z : tj_ho H f p) : tj_ho H' f p := by
  obtain ⟨a, b, c, d⟩ := z
  exact ⟨a, b, c, (h _ (by omega)).mp d⟩
theorem tj_xt_H {H H' : Nat → Prop} (h : ∀ s, s < 256 → (H s ↔ H' s)) {nd p : Nat} {np f : Nat → Nat} (z : tj_xt H nd np p f) : tj_xt H' nd np p f := by
  obtain ⟨s, hs, a, b⟩ := z
  exact ⟨s, hs, (h s hs).mp a, b⟩
theorem tj_SS_H {H H' : Nat → Prop} (h : ∀ s, s < 256 → (H s ↔ H' s)) {nd nc q : Nat} {np ck cf cs : Nat → Nat} {xp : Option Nat} (z : tj_SS H nd np xp nc ck cf cs q) : tj_SS H' nd np xp nc ck cf cs q := by
  obtain ⟨h1, h2, h3, h4, h5⟩ := z
  refine ⟨h1, h2, fun k hk => tj_ho_H h (h3 k hk), fun p hp hM => ?_, h5⟩
  obtain ⟨a, b, c⟩ := h4 p hp hM
  exact ⟨a, fun y => tj_ho_H h (b y), fun y x => c y (tj_xt_H (fun s hs => (h s hs).symm) x)⟩
section TJQ
variable {xc xn xe xd xu : Int32} {ob su ne ki fi sd bo ta cu fo ma : Nat → Int32}
variable {yb ym : Int32} {he gi so : Nat → Int32} {H : Nat → Prop} {np ck cf cs : Nat → Nat} {xp : Option Nat} {nd nc : Nat}
def tj_VP (H : Nat → Prop) (nd : Nat) (np : Nat → Nat) (xp : Option Nat) (nc : Nat) (ck cf cs : Nat → Nat) (s : Nat) : Prop :=
  H s ∧ tj_cn (tj_SS (fun q => H q ∧ q ≠ s) nd np xp nc ck cf cs) 6561 < tj_cn (tj_SS H nd np xp nc ck cf cs) 6561
theorem tj_xvi {post : Int32 → SX → Prop} (G : tj_GX H nd nc xp ob su ne ki fi sd np ck cf cs) (hU : xu = 0 ∨ (xu = 1 ∧ ∀ q, q < 6561 → (tj_mk ma q ↔ tj_SS H nd np xp nc ck cf cs q)))
    (h : ∀ (xu : Int32) (ob su bo ta cu fo ma : Nat → Int32), tj_GX H nd nc xp ob su ne ki fi sd np ck cf cs → (xu = 0 ∨ (xu = 1 ∧ ∀ q, q < 6561 → (tj_mk ma q ↔ tj_SS H nd np xp nc ck cf cs q))) → post (nI (tj_cn (tj_VP H nd np xp nc ck cf cs) 256)) (xc, nI nd, tj_xI xp, nI nc, xu, ob, su, ne, ki, fi, sd, bo, ta, cu, fo, ma)) :
    wpX_vital post (xc, nI nd, tj_xI xp, nI nc, xu, ob, su, ne, ki, fi, sd, bo, ta, cu, fo, ma) := by
  unfold wpX_vital
  refine tj_xsl G hU (fun bo ta cu fo ma hm => ⟨257, ?_⟩)
  have hN := tj_cn_le (tj_SS H nd np xp nc ck cf cs) 6561
  have ec : xc + (-1) + 1 = xc := by rw [Int32.add_assoc, show (-1 : Int32) + 1 = 0 from rfl, Int32.add_zero]
  have l9 : ∀ m s (xu : Int32) (ob su bo ta cu fo ma : Nat → Int32), s + m = 256 → tj_GX H nd nc xp ob su ne ki fi sd np ck cf cs → (xu = 0 ∨ (xu = 1 ∧ ∀ q, q < 6561 → (tj_mk ma q ↔ tj_SS H nd np xp nc ck cf cs q))) →
      wX_vital_9 post (nI (tj_cn (tj_SS H nd np xp nc ck cf cs) 6561)) (m + 1) (nI (tj_cn (tj_VP H nd np xp nc ck cf cs) s)) (nI s) xc (nI nd) (tj_xI xp) (nI nc) xu ob su ne ki fi sd bo ta cu fo ma := by
    intro m
    induction m with
    | zero =>
      intro s xu ob su bo ta cu fo ma hs G hU
      have e : s = 256 := by omega
      subst e
      exact br_t (nI_le (a := 256) (b := 256) (by omega) (by omega)) (h xu ob su bo ta cu fo ma G hU)
    | succ m ih =>
      intro s xu ob su bo ta cu fo ma hs G hU
      have hs' : s < 256 := by omega
      obtain ⟨a1, a2, a3, hob, hsu, a6, a7⟩ := G
      refine br_f (nI_ge (b := 256) hs' (by decide)) ?_
      refine tj_xh hs' hob (fun hH => br_f (by decide) ?_) (fun hH => br_t rfl (nm_r (nI_1 s) ?_))
      · obtain ⟨ob1, su1, p1, p2, p3⟩ := tj_xen0 (xc := xc) (xn := nI nd) (xe := tj_xI xp) (xd := nI nc) (xu := xu) (ob := ob) (su := su) (ne := ne) (ki := ki) (fi := fi) (sd := sd) (bo := bo) (ta := ta) (cu := cu) (fo := fo) (ma := ma) (H := H) (H' := fun q => H q ∧ q ≠ s) hs' hob hsu (fun q _ => Iff.rfl)
        refine p3 _ ?_
        refine tj_xsl (H := fun q => H q ∧ q ≠ s) ⟨a1, a2, a3, p1, p2, a6, a7⟩ (Or.inl rfl) (fun bo ta cu fo ma _ => ?_)
        have hN' := tj_cn_le (tj_SS (fun q => H q ∧ q ≠ s) nd np xp nc ck cf cs) 6561
        obtain ⟨ob2, su2, q1, q2, q3⟩ := tj_xen1 (xc := xc + (-1)) (xn := nI nd) (xe := tj_xI xp) (xd := nI nc) (xu := 1) (ob := ob1) (su := su1) (ne := ne) (ki := ki) (fi := fi) (sd := sd) (bo := bo) (ta := ta) (cu := cu) (fo := fo) (ma := ma) (H := fun q => H q ∧ q ≠ s) (H' := H) hs' p1 p2 (fun q _ => by
          constructor
          · intro z
            by_cases e : q = s
            · exact Or.inr e
            · exact Or.inl ⟨z, e⟩
          · rintro (z | z)
            · exact z.1
            · rw [z]; exact hH)
        rw [ec] at q3
        refine q3 _ ?_
        refine pk_le (tj_cn (tj_SS H nd np xp nc ck cf cs) 6561) (tj_cn (tj_SS (fun q => H q ∧ q ≠ s) nd np xp nc ck cf cs) 6561) (fun l => ?_) (fun l => ?_)
        · have := ih (s + 1) 0 ob2 su2 bo ta cu fo ma (by omega) ⟨a1, a2, a3, q1, q2, a6, a7⟩ (Or.inl rfl)
          rw [tj_cn_f (P := tj_VP H nd np xp nc ck cf cs) (fun z => by have := z.2; omega)] at this
          exact nm_r (Int32.add_zero _) (nm_r (nI_1 s) this)
        · have := ih (s + 1) 0 ob2 su2 bo ta cu fo ma (by omega) ⟨a1, a2, a3, q1, q2, a6, a7⟩ (Or.inl rfl)
          rw [tj_cn_t (P := tj_VP H nd np xp nc ck cf cs) ⟨hH, l⟩] at this
          exact nm_r (nI_1 _) (nm_r (nI_1 s) this)
      · have := ih (s + 1) xu ob su bo ta cu fo ma (by omega) ⟨a1, a2, a3, hob, hsu, a6, a7⟩ hU
        rw [tj_cn_f (P := tj_VP H nd np xp nc ck cf cs) (fun z => hH z.1)] at this
        exact this
  exact l9 256 0 1 ob su bo ta cu fo ma (by omega) G (Or.inr ⟨rfl, hm⟩)
theorem tj_yvi {post : Int32 → SY → Prop} (G : tj_GY H nd nc xp he ne ki fi sd np ck cf cs)
    (h : ∀ (yb ym : Int32) (he gi so : Nat → Int32), tj_GY H nd nc xp he ne ki fi sd np ck cf cs → post (nI (tj_cn (tj_VP H nd np xp nc ck cf cs) 256)) (xc, nI nd, tj_xI xp, nI nc, yb, ym, he, ne, ki, fi, sd, gi, so)) :
    wpY_vital post (xc, nI nd, tj_xI xp, nI nc, yb, ym, he, ne, ki, fi, sd, gi, so) := by
  unfold wpY_vital
  refine tj_wkY G (fun yb ym gi so hm => ⟨257, ?_⟩)
  have hN := tj_cn_le (tj_SS H nd np xp nc ck cf cs) 6561
  have l9 : ∀ m s (yb ym : Int32) (he gi so : Nat → Int32), s + m = 256 → tj_GY H nd nc xp he ne ki fi sd np ck cf cs →
      wY_vital_9 post (nI (tj_cn (tj_SS H nd np xp nc ck cf cs) 6561)) (m + 1) (nI (tj_cn (tj_VP H nd np xp nc ck cf cs) s)) (nI s) xc (nI nd) (tj_xI xp) (nI nc) yb ym he ne ki fi sd gi so := by
    intro m
    induction m with
    | zero =>
      intro s yb ym he gi so hs G
      have e : s = 256 := by omega
      subst e
      exact br_t (nI_le (a := 256) (b := 256) (by omega) (by omega)) (h yb ym he gi so G)
    | succ m ih =>
      intro s yb ym he gi so hs G
      have hs' : s < 256 := by omega
      obtain ⟨a1, a2, a3, hhe, a6, a7⟩ := G
      have hi : vp_in (nI s) 256 := vp_in_nI hs' (by omega)
      have cl : (nI s).toNatClampNeg = s := nI_clamp (by omega)
      refine br_f (nI_ge (b := 256) hs' (by decide)) ⟨hi, ?_⟩
      rw [cl]
      refine ek_if (hhe s hs') (fun hH => nm_r (nI_1 s) ?_) (fun hH => ⟨hi, nm_r (e' := upd he s 0) (by rw [tj_nb0]) ?_⟩)
      · have := ih (s + 1) yb ym he gi so (by omega) ⟨a1, a2, a3, hhe, a6, a7⟩
        rw [tj_cn_f (P := tj_VP H nd np xp nc ck cf cs) (fun z => hH z.1)] at this
        exact this
      · have hHs : H s := Classical.byContradiction hH
        have hN' := tj_cn_le (tj_SS (fun q => H q ∧ q ≠ s) nd np xp nc ck cf cs) 6561
        refine tj_wkY (H := fun q => H q ∧ q ≠ s) ⟨a1, a2, a3, fun q hq => ?_, a6, a7⟩ (fun yb ym gi so _ => ?_)
        · by_cases e : q = s
          · rw [e, pk_us]; exact ⟨fun _ z => z.2 rfl, fun _ => rfl⟩
          · rw [pk_un e, hhe q hq]; exact ⟨fun z y => z y.1, fun z y => z ⟨y, e⟩⟩
        · have G2 : tj_GY H nd nc xp (upd (upd he s 0) s 1) ne ki fi sd np ck cf cs := by
            refine ⟨a1, a2, a3, fun q hq => ?_, a6, a7⟩
            by_cases e : q = s
            · rw [e, pk_us]; exact ⟨fun z => absurd z (by decide), fun z => absurd hHs z⟩
            · rw [pk_un e, pk_un e]; exact hhe q hq
          refine pk_le (tj_cn (tj_SS H nd np xp nc ck cf cs) 6561) (tj_cn (tj_SS (fun q => H q ∧ q ≠ s) nd np xp nc ck cf cs) 6561) (fun l => ⟨hi, nm_r (e' := upd (upd he s 0) s 1) (by rw [tj_nb1]) (nm_r (nI_1 s) ?_)⟩) (fun l => nm_r (nI_1 _) ⟨hi, nm_r (e' := upd (upd he s 0) s 1) (by rw [tj_nb1]) (nm_r (nI_1 s) ?_)⟩)
          · have := ih (s + 1) yb ym (upd (upd he s 0) s 1) gi so (by omega) G2
            rw [tj_cn_f (P := tj_VP H nd np xp nc ck cf cs) (fun z => by have := z.2; omega)] at this
            exact this
          · have := ih (s + 1) yb ym (upd (upd he s 0) s 1) gi so (by omega) G2
            rw [tj_cn_t (P := tj_VP H nd np xp nc ck cf cs) ⟨hHs, l⟩] at this
            exact this
  exact l9 256 0 yb ym he gi so (by omega) G
end TJQ
end
section
theorem i_vc_matching {k : Nat} {u : SX} {v : SY} (I : i_Rel k u v) (hk : k + 4 ≤ 2048) (v1 : Int32) : wpX_matching (fun r u' => wpY_matching (fun r' => r' = r ∧ i_Rel (k + 4) u' v) v v1) u v1 := by
  refine tj_el (P := fun u v => wpX_matching (fun r u' => wpY_matching (fun r' => r' = r ∧ i_Rel (k + 4) u' v) v v1) u v1) ?_ I
  intro xc nd nc xp xu yb ym ob su ne ki fi sd bo ta cu fo ma he gi so np ck cf cs hc hF hU
  have I' : i_Rel (k + 4) (xc, nI nd, tj_xI xp, nI nc, xu, ob, su, ne, ki, fi, sd, bo, ta, cu, fo, ma) (xc, nI nd, tj_xI xp, nI nc, yb, ym, he, ne, ki, fi, sd, gi, so) := tj_in (tj_Ct_up hc) hF hU
  have GX := tj_F_X hF
  have GY := tj_F_Y hF
  have no1 : (v1 < 0 ∨ nI 1728 ≤ v1) → wpX_matching (fun r u' => wpY_matching (fun r' => r' = r ∧ i_Rel (k + 4) u' (xc, nI nd, tj_xI xp, nI nc, yb, ym, he, ne, ki, fi, sd, gi, so)) (xc, nI nd, tj_xI xp, nI nc, yb, ym, he, ne, ki, fi, sd, gi, so) v1) (xc, nI nd, tj_xI xp, nI nc, xu, ob, su, ne, ki, fi, sd, bo, ta, cu, fo, ma) v1 := by
    intro h
    unfold wpX_matching
    refine tj_xPn h (br_t rfl ?_)
    unfold wpY_matching
    exact tj_yPn h (br_f (by decide) ⟨rfl, I'⟩)
  rcases pk_ix v1 (n := 1728) (by decide) with h | h | ⟨p, hp, e⟩
  · exact no1 (Or.inl h)
  · exact no1 (Or.inr h)
  · subst e
    exact tj_xma (H := fun s => ¬ he s = 0) hp GX.2.2.2.1 (fun bo => tj_yma2 (H := fun s => ¬ he s = 0) hp GY.2.2.2.1 ⟨rfl, tj_in (tj_Ct_up hc) hF hU⟩)
theorem i_vc_solutions {k : Nat} {u : SX} {v : SY} (I : i_Rel k u v) (hk : k + 4 ≤ 2048) : wpX_solutions (fun r u' => wpY_solutions (fun r' v' => r' = r ∧ i_Rel (k + 4) u' v') v) u := by
  refine tj_el (P := fun u v => wpX_solutions (fun r u' => wpY_solutions (fun r' v' => r' = r ∧ i_Rel (k + 4) u' v') v) u) ?_ I
  intro xc nd nc xp xu yb ym ob su ne ki fi sd bo ta cu fo ma he gi so np ck cf cs hc hF hU
  have I' : i_Rel (k + 4) (xc, nI nd, tj_xI xp, nI nc, xu, ob, su, ne, ki, fi, sd, bo, ta, cu, fo, ma) (xc, nI nd, tj_xI xp, nI nc, yb, ym, he, ne, ki, fi, sd, gi, so) := tj_in (tj_Ct_up hc) hF hU
  have GX := tj_F_X hF
  have GY := tj_F_Y hF
  refine tj_xsl GX hU (fun bo ta cu fo ma hm => ?_)
  unfold wpY_solutions
  exact tj_wkY GY (fun yb ym gi so _ => ⟨rfl, tj_in (tj_Ct_up hc) hF (Or.inr ⟨rfl, hm⟩)⟩)
theorem i_vc_next {k : Nat} {u : SX} {v : SY} (I : i_Rel k u v) (hk : k + 4 ≤ 2048) (v1 : Int32) : wpX_next (fun r u' => wpY_next (fun r' v' => r' = r ∧ i_Rel (k + 4) u' v') v v1) u v1 := by
  refine tj_el (P := fun u v => wpX_next (fun r u' => wpY_next (fun r' v' => r' = r ∧ i_Rel (k + 4) u' v') v v1) u v1) ?_ I
  intro xc nd nc xp xu yb ym ob su ne ki fi sd bo ta cu fo ma he gi so np ck cf cs hc hF hU
  have I' : i_Rel (k + 4) (xc, nI nd, tj_xI xp, nI nc, xu, ob, su, ne, ki, fi, sd, bo, ta, cu, fo, ma) (xc, nI nd, tj_xI xp, nI nc, yb, ym, he, ne, ki, fi, sd, gi, so) := tj_in (tj_Ct_up hc) hF hU
  have GX := tj_F_X hF
  have GY := tj_F_Y hF
  refine tj_xnx GX hU (fun bo ta cu fo ma hm z => ?_) (fun bo ta cu fo ma hm q hq c l => ?_)
  · exact tj_ynx GY (fun yb ym gi so _ => ⟨rfl, tj_in (tj_Ct_up hc) hF (Or.inr ⟨rfl, hm⟩)⟩) (fun yb ym gi so q hq c _ => absurd c (z q hq))
  · refine tj_ynx GY (fun yb ym gi so z => absurd c (z q hq)) (fun yb ym gi so q' hq' c' l' => ?_)
    have e : q' = q := by
      rcases Nat.lt_trichotomy q' q with h | h | h
      · exact absurd c' (l q' h)
      · exact h
      · exact absurd c (l' q h)
    rw [e]
    exact ⟨rfl, tj_in (tj_Ct_up hc) hF (Or.inr ⟨rfl, hm⟩)⟩
theorem i_vc_isSolution {k : Nat} {u : SX} {v : SY} (I : i_Rel k u v) (hk : k + 4 ≤ 2048) (v1 : Int32) : wpX_isSolution (fun r u' => wpY_isSolution (fun r' v' => r' = r ∧ i_Rel (k + 4) u' v') v v1) u v1 := by
  refine tj_el (P := fun u v => wpX_isSolution (fun r u' => wpY_isSolution (fun r' v' => r' = r ∧ i_Rel (k + 4) u' v') v v1) u v1) ?_ I
  intro xc nd nc xp xu yb ym ob su ne ki fi sd bo ta cu fo ma he gi so np ck cf cs hc hF hU
  have I' : i_Rel (k + 4) (xc, nI nd, tj_xI xp, nI nc, xu, ob, su, ne, ki, fi, sd, bo, ta, cu, fo, ma) (xc, nI nd, tj_xI xp, nI nc, yb, ym, he, ne, ki, fi, sd, gi, so) := tj_in (tj_Ct_up hc) hF hU
  have GX := tj_F_X hF
  have GY := tj_F_Y hF
  unfold wpX_isSolution
  rcases pk_ix v1 (n := 6561) (by decide) with h | h | ⟨q, hq, e⟩
  · refine br_t h ?_
    unfold wpY_isSolution
    exact br_t h ⟨rfl, I'⟩
  · refine br_f (tj_ge0 h (by decide)) (br_f (Int32.not_lt.mpr h) ?_)
    unfold wpY_isSolution
    exact br_f (tj_ge0 h (by decide)) (br_f (Int32.not_le.mpr (tj_geM (m := 6560) h (by decide) (by decide))) ⟨rfl, I'⟩)
  · subst e
    have h0 : ¬ nI q < 0 := nI_pos (by omega)
    have h1 : nI q ≤ 6560 := nI_le (b := 6560) (by omega) (by omega)
    have cl : (nI q).toNatClampNeg = q := nI_clamp (by omega)
    refine br_f h0 (br_t (nI_lt (b := 6561) hq (by omega)) ?_)
    refine tj_rfX GX hU (fun bo ta cu fo ma hm => tj_xm hq (fun m => br_f (by decide) ?_) (fun m => br_t rfl ?_))
    · unfold wpY_isSolution
      refine br_f h0 (br_t h1 (tj_wkY GY (fun yb ym gi so hs => ⟨vp_in_nI hq (by omega), ?_⟩)))
      rw [cl]
      exact br_f (fun z => (hs q hq).mp z ((hm q hq).mp m)) ⟨rfl, tj_in (tj_Ct_up hc) hF (Or.inr ⟨rfl, hm⟩)⟩
    · unfold wpY_isSolution
      refine br_f h0 (br_t h1 (tj_wkY GY (fun yb ym gi so hs => ⟨vp_in_nI hq (by omega), ?_⟩)))
      rw [cl]
      exact br_t ((hs q hq).mpr (fun z => m ((hm q hq).mpr z))) ⟨rfl, tj_in (tj_Ct_up hc) hF (Or.inr ⟨rfl, hm⟩)⟩
theorem i_vc_values {k : Nat} {u : SX} {v : SY} (I : i_Rel k u v) (hk : k + 4 ≤ 2048) (v1 : Int32) : wpX_values (fun r u' => wpY_values (fun r' v' => r' = r ∧ i_Rel (k + 4) u' v') v v1) u v1 := by
  refine tj_el (P := fun u v => wpX_values (fun r u' => wpY_values (fun r' v' => r' = r ∧ i_Rel (k + 4) u' v') v v1) u v1) ?_ I
  intro xc nd nc xp xu yb ym ob su ne ki fi sd bo ta cu fo ma he gi so np ck cf cs hc hF hU
  have I' : i_Rel (k + 4) (xc, nI nd, tj_xI xp, nI nc, xu, ob, su, ne, ki, fi, sd, bo, ta, cu, fo, ma) (xc, nI nd, tj_xI xp, nI nc, yb, ym, he, ne, ki, fi, sd, gi, so) := tj_in (tj_Ct_up hc) hF hU
  have GX := tj_F_X hF
  have GY := tj_F_Y hF
  have no1 : (v1 < 0 ∨ nI 4 ≤ v1) → wpX_values (fun r u' => wpY_values (fun r' v' => r' = r ∧ i_Rel (k + 4) u' v') (xc, nI nd, tj_xI xp, nI nc, yb, ym, he, ne, ki, fi, sd, gi, so) v1) (xc, nI nd, tj_xI xp, nI nc, xu, ob, su, ne, ki, fi, sd, bo, ta, cu, fo, ma) v1 := by
    intro h
    unfold wpX_values
    refine tj_xVn h (br_t rfl ?_)
    unfold wpY_values
    exact tj_yVn h (br_f (by decide) ⟨rfl, I'⟩)
  rcases pk_ix v1 (n := 4) (by decide) with h | h | ⟨p, hp, e⟩
  · exact no1 (Or.inl h)
  · exact no1 (Or.inr h)
  · subst e
    exact tj_xvl hp GX hU (fun bo ta cu fo ma hm => tj_yvl hp GY (fun yb ym gi so => ⟨rfl, tj_in (tj_Ct_up hc) hF (Or.inr ⟨rfl, hm⟩)⟩))
theorem i_vc_having {k : Nat} {u : SX} {v : SY} (I : i_Rel k u v) (hk : k + 4 ≤ 2048) (v1 : Int32) (v2 : Int32) : wpX_having (fun r u' => wpY_having (fun r' v' => r' = r ∧ i_Rel (k + 4) u' v') v v1 v2) u v1 v2 := by
  refine tj_el (P := fun u v => wpX_having (fun r u' => wpY_having (fun r' v' => r' = r ∧ i_Rel (k + 4) u' v') v v1 v2) u v1 v2) ?_ I
  intro xc nd nc xp xu yb ym ob su ne ki fi sd bo ta cu fo ma he gi so np ck cf cs hc hF hU
  have I' : i_Rel (k + 4) (xc, nI nd, tj_xI xp, nI nc, xu, ob, su, ne, ki, fi, sd, bo, ta, cu, fo, ma) (xc, nI nd, tj_xI xp, nI nc, yb, ym, he, ne, ki, fi, sd, gi, so) := tj_in (tj_Ct_up hc) hF hU
  have GX := tj_F_X hF
  have GY := tj_F_Y hF
  have no1 : (v1 < 0 ∨ nI 4 ≤ v1) → wpX_having (fun r u' => wpY_having (fun r' v' => r' = r ∧ i_Rel (k + 4) u' v') (xc, nI nd, tj_xI xp, nI nc, yb, ym, he, ne, ki, fi, sd, gi, so) v1 v2) (xc, nI nd, tj_xI xp, nI nc, xu, ob, su, ne, ki, fi, sd, bo, ta, cu, fo, ma) v1 v2 := by
    intro h
    unfold wpX_having
    refine tj_xVn h (br_t rfl ?_)
    unfold wpY_having
    exact tj_yVn h (br_f (by decide) ⟨rfl, I'⟩)
  rcases pk_ix v1 (n := 4) (by decide) with h | h | ⟨p, hp, e⟩
  · exact no1 (Or.inl h)
  · exact no1 (Or.inr h)
  · subst e
    have hlo : v2 < 0 → wpX_having (fun r u' => wpY_having (fun r' v' => r' = r ∧ i_Rel (k + 4) u' v') (xc, nI nd, tj_xI xp, nI nc, yb, ym, he, ne, ki, fi, sd, gi, so) (nI p) v2) (xc, nI nd, tj_xI xp, nI nc, xu, ob, su, ne, ki, fi, sd, bo, ta, cu, fo, ma) (nI p) v2 := by
      intro h
      unfold wpX_having
      refine tj_xVy hp (br_f (by decide) (br_t h ?_))
      unfold wpY_having
      exact tj_yVy hp (br_t rfl (br_t h ⟨rfl, I'⟩))
    rcases pk_ix v2 (n := 9) (by decide) with h | h | ⟨x, hx, e⟩
    · exact hlo h
    · have g0 : ¬ v2 < 0 := tj_ge0 h (by decide)
      have g8 : ¬ v2 ≤ 8 := Int32.not_le.mpr (tj_geM (m := 8) h (by decide) (by decide))
      unfold wpX_having
      refine tj_xVy hp (br_f (by decide) (br_f g0 (br_f g8 ?_)))
      unfold wpY_having
      exact tj_yVy hp (br_t rfl (br_f g0 (br_f g8 ⟨rfl, I'⟩)))
    · subst e
      exact tj_xhv hp (by omega) GX hU (fun bo ta cu fo ma hm => tj_yhv hp (by omega) GY (fun yb ym gi so => ⟨rfl, tj_in (tj_Ct_up hc) hF (Or.inr ⟨rfl, hm⟩)⟩))
theorem i_vc_pairs {k : Nat} {u : SX} {v : SY} (I : i_Rel k u v) (hk : k + 4 ≤ 2048) (v1 : Int32) (v2 : Int32) : wpX_pairs (fun r u' => wpY_pairs (fun r' v' => r' = r ∧ i_Rel (k + 4) u' v') v v1 v2) u v1 v2 := by
  refine tj_el (P := fun u v => wpX_pairs (fun r u' => wpY_pairs (fun r' v' => r' = r ∧ i_Rel (k + 4) u' v') v v1 v2) u v1 v2) ?_ I
  intro xc nd nc xp xu yb ym ob su ne ki fi sd bo ta cu fo ma he gi so np ck cf cs hc hF hU
  have I' : i_Rel (k + 4) (xc, nI nd, tj_xI xp, nI nc, xu, ob, su, ne, ki, fi, sd, bo, ta, cu, fo, ma) (xc, nI nd, tj_xI xp, nI nc, yb, ym, he, ne, ki, fi, sd, gi, so) := tj_in (tj_Ct_up hc) hF hU
  have GX := tj_F_X hF
  have GY := tj_F_Y hF
  have no1 : (v1 < 0 ∨ nI 4 ≤ v1) → wpX_pairs (fun r u' => wpY_pairs (fun r' v' => r' = r ∧ i_Rel (k + 4) u' v') (xc, nI nd, tj_xI xp, nI nc, yb, ym, he, ne, ki, fi, sd, gi, so) v1 v2) (xc, nI nd, tj_xI xp, nI nc, xu, ob, su, ne, ki, fi, sd, bo, ta, cu, fo, ma) v1 v2 := by
    intro h
    unfold wpX_pairs
    refine tj_xVn h (br_t rfl ?_)
    unfold wpY_pairs
    exact tj_yVn h (br_f (by decide) ⟨rfl, I'⟩)
  rcases pk_ix v1 (n := 4) (by decide) with h | h | ⟨p, hp, e⟩
  · exact no1 (Or.inl h)
  · exact no1 (Or.inr h)
  · subst e
    have no2 : (v2 < 0 ∨ nI 4 ≤ v2) → wpX_pairs (fun r u' => wpY_pairs (fun r' v' => r' = r ∧ i_Rel (k + 4) u' v') (xc, nI nd, tj_xI xp, nI nc, yb, ym, he, ne, ki, fi, sd, gi, so) (nI p) v2) (xc, nI nd, tj_xI xp, nI nc, xu, ob, su, ne, ki, fi, sd, bo, ta, cu, fo, ma) (nI p) v2 := by
      intro h
      unfold wpX_pairs
      refine tj_xVy hp (br_f (by decide) (tj_xVn h (br_t rfl ?_)))
      unfold wpY_pairs
      exact tj_yVy hp (br_t rfl (tj_yVn h (br_f (by decide) ⟨rfl, I'⟩)))
    rcases pk_ix v2 (n := 4) (by decide) with h | h | ⟨w, hw, e⟩
    · exact no2 (Or.inl h)
    · exact no2 (Or.inr h)
    · subst e
      exact tj_xpr hp hw GX hU (fun bo ta cu fo ma hm => tj_ypr hp hw GY (fun yb ym gi so => ⟨rfl, tj_in (tj_Ct_up hc) hF (Or.inr ⟨rfl, hm⟩)⟩))
theorem i_vc_vital {k : Nat} {u : SX} {v : SY} (I : i_Rel k u v) (hk : k + 4 ≤ 2048) : wpX_vital (fun r u' => wpY_vital (fun r' v' => r' = r ∧ i_Rel (k + 4) u' v') v) u := by
  refine tj_el (P := fun u v => wpX_vital (fun r u' => wpY_vital (fun r' v' => r' = r ∧ i_Rel (k + 4) u' v') v) u) ?_ I
  intro xc nd nc xp xu yb ym ob su ne ki fi sd bo ta cu fo ma he gi so np ck cf cs hc hF hU
  have I' : i_Rel (k + 4) (xc, nI nd, tj_xI xp, nI nc, xu, ob, su, ne, ki, fi, sd, bo, ta, cu, fo, ma) (xc, nI nd, tj_xI xp, nI nc, yb, ym, he, ne, ki, fi, sd, gi, so) := tj_in (tj_Ct_up hc) hF hU
  have GX := tj_F_X hF
  have GY := tj_F_Y hF
  refine tj_xvi GX hU (fun xu ob su bo ta cu fo ma G1 hU1 => tj_yvi GY (fun yb ym he1 gi so G2 => ⟨rfl, ?_⟩))
  obtain ⟨a1, a2, a3, hob, hsu, a6, a7⟩ := G1
  obtain ⟨_, _, _, hhe, _, _⟩ := G2
  have eH : ∀ s, s < 256 → ((¬ he s = 0) ↔ (¬ he1 s = 0)) := fun s hs => ⟨fun z y => (hhe s hs).mp y z, fun z => Classical.byContradiction fun y => z ((hhe s hs).mpr y)⟩
  refine tj_in (tj_Ct_up hc) ⟨a1, a2, a3, fun r o hr ho => (hob r o hr ho).trans (eH _ (by omega)), fun r o hr ho => (hsu r o hr ho).trans (eH _ (by omega)), a6, a7⟩ ?_
  rcases hU1 with z | ⟨z, hm⟩
  · exact Or.inl z
  · exact Or.inr ⟨z, fun q hq => (hm q hq).trans ⟨fun y => tj_SS_H eH y, fun y => tj_SS_H (fun s hs => (eH s hs).symm) y⟩⟩
end
