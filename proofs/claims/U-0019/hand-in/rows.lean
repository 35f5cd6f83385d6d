section
/-! rows taken from the kit's rows to paste (PURE-ROWS, BITS) -/
theorem pk_us {f : Nat → Int32} {k : Nat} {x : Int32} : upd f k x k = x := if_pos rfl
theorem pk_un {f : Nat → Int32} {k j : Nat} {x : Int32} (h : j ≠ k) : upd f k x j = f j := if_neg h
theorem pk_sub {a b : Nat} (h : b ≤ a) : nI a - nI b = nI (a - b) := by
  obtain ⟨c, rfl⟩ : ∃ c, a = c + b := ⟨a - b, by omega⟩
  rw [← nI_add, Int32.add_sub_cancel, Nat.add_sub_cancel]
theorem pk_m1 (n : Nat) : nI (n + 1) + (-1) = nI n := by
  rw [← nI_1, Int32.add_assoc, show (1 : Int32) + (-1) = 0 from rfl, Int32.add_zero]
theorem pk_mul (a b : Nat) : nI a * nI b = nI (a * b) := (Int32.ofNat_mul a b).symm
theorem pk_div {a d : Nat} (ha : a < 2 ^ 31) (h0 : 0 < d) (hd : d < 2 ^ 31) : nI a / nI d = nI (a / d) := by
  apply Int32.toInt_inj.mp
  rw [lg_idiv_nonneg (by rw [nI_toInt ha]; omega) (by rw [nI_toInt hd]; omega), nI_toInt ha, nI_toInt hd, nI_toInt (Nat.lt_of_le_of_lt (Nat.div_le_self a d) ha)]
  first | rfl | exact (Int.natCast_ediv _ _).symm
theorem pk_rem {a d : Nat} (ha : a < 2 ^ 31) (h0 : 0 < d) (hd : d < 2 ^ 31) : nI a - nI a / nI d * nI d = nI (a % d) := by
  rw [pk_div ha h0 hd, pk_mul, pk_sub (Nat.div_mul_le_self a d)]
  exact congrArg nI (by have := Nat.div_add_mod' a d; omega)
theorem pk_ix (x : Int32) {n : Nat} (hn : n < 2 ^ 31) : x < 0 ∨ nI n ≤ x ∨ ∃ j : Nat, j < n ∧ x = nI j := by
  by_cases h : x < 0
  · exact Or.inl h
  · obtain ⟨j, hj, rfl⟩ := nI_of h
    by_cases h2 : j < n
    · exact Or.inr (Or.inr ⟨j, h2, rfl⟩)
    · exact Or.inr (Or.inl (nI_le (by omega) hj))
theorem pk_le {x y : Int32} {A B : Prop} (a b : Nat) (f : a ≤ b → A) (g : b < a → B) (hx : x = nI a := by rfl) (hy : y = nI b := by rfl) (ha : a < 2 ^ 31 := by omega) (hb : b < 2 ^ 31 := by omega) : (x ≤ y → A) ∧ (¬ x ≤ y → B) := by
  subst hx hy
  rw [nI_leI ha hb]
  exact ⟨f, fun z => g (by omega)⟩
theorem pk_lt {x y : Int32} {A B : Prop} (a b : Nat) (f : a < b → A) (g : b ≤ a → B) (hx : x = nI a := by rfl) (hy : y = nI b := by rfl) (ha : a < 2 ^ 31 := by omega) (hb : b < 2 ^ 31 := by omega) : (x < y → A) ∧ (¬ x < y → B) := by
  subst hx hy
  rw [nI_ltI ha hb]
  exact ⟨f, fun z => g (by omega)⟩
theorem pk_eq {x y : Int32} {A B : Prop} (a b : Nat) (f : a = b → A) (g : a ≠ b → B) (hx : x = nI a := by rfl) (hy : y = nI b := by rfl) (ha : a < 2 ^ 31 := by omega) (hb : b < 2 ^ 31 := by omega) : (x = y → A) ∧ (¬ x = y → B) := by
  subst hx hy
  rw [nI_eq ha hb]
  exact ⟨f, g⟩
theorem pk_in {x : Int32} (n N : Nat) (h : n < N) (hx : x = nI n := by rfl) (hN : N < 2 ^ 31 := by omega) : vp_in x N := by
  subst hx
  exact vp_in_nI h hN
theorem pk_cl {x : Int32} (n : Nat) (hx : x = nI n := by rfl) (h : n < 2 ^ 31 := by omega) : x.toNatClampNeg = n := by
  subst hx
  exact nI_clamp h
def bt (x : Int32) (i : Nat) : Bool := x.toBitVec.getLsbD i
theorem b_ext {x y : Int32} (h : ∀ i, i < 32 → bt x i = bt y i) : x = y := Int32.toBitVec_inj.mp (BitVec.eq_of_getLsbD_eq (fun i hi => h i hi))
theorem b_or (x y : Int32) (i : Nat) : bt (x ||| y) i = (bt x i || bt y i) := by unfold bt; rw [Int32.toBitVec_or, BitVec.getLsbD_or]
theorem b_and (x y : Int32) (i : Nat) : bt (x &&& y) i = (bt x i && bt y i) := by unfold bt; rw [Int32.toBitVec_and, BitVec.getLsbD_and]
theorem b_xor (x y : Int32) (i : Nat) : bt (x ^^^ y) i = (bt x i ^^ bt y i) := by unfold bt; rw [Int32.toBitVec_xor, BitVec.getLsbD_xor]
theorem b_m1 : ∀ i, i < 32 → bt (-1) i = true := by decide +kernel
theorem b_0 (i : Nat) : bt 0 i = false := BitVec.getLsbD_zero
theorem s_l : ∀ n, n < 32 → ((nI n &&& 31).toBitVec.smod 32).toNat = n := by decide +kernel
theorem b_shl (n : Nat) (hn : n < 32) (x : Int32) {i : Nat} (hi : i < 32) : bt (x <<< (nI n &&& 31)) i = (decide (n ≤ i) && bt x (i - n)) := by
  unfold bt
  rw [Int32.toBitVec_shiftLeft]
  show (x.toBitVec <<< ((nI n &&& 31).toBitVec.smod 32).toNat).getLsbD i = _
  rw [s_l n hn, BitVec.getLsbD_shiftLeft]
  rcases Nat.lt_or_ge i n with h | h
  · simp [h, Nat.not_le.mpr h]
  · simp [hi, h, Nat.not_lt.mpr h]
theorem b_sshr (n : Nat) (hn : n < 32) (x : Int32) {i : Nat} (hi : i < 32) : bt (x >>> (nI n &&& 31)) i = if n + i < 32 then bt x (n + i) else bt x 31 := by
  unfold bt
  rw [Int32.toBitVec_shiftRight]
  show (x.toBitVec.sshiftRight ((nI n &&& 31).toBitVec.smod 32).toNat).getLsbD i = _
  rw [s_l n hn, BitVec.getLsbD_sshiftRight, BitVec.msb_eq_getLsbD_last]
  simp [hi]
/-! ===== bits of 1 << s; ands that are nought ===== -/
theorem bb_one : ∀ i, i < 32 → bt 1 i = decide (i = 0) := by decide +kernel
theorem bb_bit {s w : Nat} (hs : s < 32) (hw : w < 32) : bt ((1 : Int32) <<< (nI s &&& 31)) w = decide (w = s) := by
  rw [b_shl s hs _ hw, bb_one (w - s) (by omega)]
  by_cases h : w = s
  · subst h; simp
  · by_cases h2 : s ≤ w
    · have : ¬ w - s = 0 := by omega
      simp [h, this]
    · simp [h, h2]
theorem bb_not {x : Int32} {w : Nat} (hw : w < 32) : bt (x ^^^ (-1)) w = !bt x w := by
  rw [b_xor, b_m1 w hw]; cases bt x w <;> rfl
theorem bb_and0 {x y : Int32} : x &&& y = 0 ↔ ∀ w, w < 32 → ¬ (bt x w = true ∧ bt y w = true) := by
  constructor
  · intro h w hw hb
    have e := b_and x y w
    rw [h, b_0, hb.1, hb.2] at e
    exact absurd e (by decide)
  · intro h
    apply b_ext
    intro i hi
    rw [b_and, b_0]
    have := h i hi
    cases hx : bt x i <;> cases hy : bt y i <;> first | rfl | exact absurd ⟨hx, hy⟩ this
theorem bb_ab0 {x : Int32} {s : Nat} (hs : s < 32) : x &&& ((1 : Int32) <<< (nI s &&& 31)) = 0 ↔ bt x s = false := by
  rw [bb_and0]
  constructor
  · intro h
    have := h s hs
    rw [bb_bit hs hs, decide_eq_true rfl] at this
    cases hx : bt x s
    · rfl
    · exact absurd ⟨hx, rfl⟩ this
  · intro h w hw hb
    rw [bb_bit hs hw] at hb
    have e : w = s := of_decide_eq_true hb.2
    rw [e, h] at hb
    exact absurd hb.1 (by decide)
theorem bb_ba0 {x : Int32} {s : Nat} (hs : s < 32) : ((1 : Int32) <<< (nI s &&& 31)) &&& x = 0 ↔ bt x s = false := by
  rw [← bb_ab0 hs, Int32.and_comm]
theorem bb_sh {x : Int32} {s : Nat} (hs : s < 32) : (x >>> (nI s &&& 31)) &&& 1 = if bt x s = true then 1 else 0 := by
  apply b_ext
  intro i hi
  rw [b_and, b_sshr s hs x hi, bb_one i hi]
  by_cases h0 : i = 0
  · subst h0
    rw [if_pos (show s + 0 < 32 by omega), Nat.add_zero]
    cases bt x s
    · exact (b_0 0).symm
    · exact (bb_one 0 (by decide)).symm
  · rw [decide_eq_false h0, Bool.and_false]
    by_cases hb : bt x s = true
    · rw [if_pos hb, bb_one i hi, decide_eq_false h0]
    · rw [if_neg hb, b_0]
theorem bb_n0 : vp_nar .boolean 0 = 0 := by decide
theorem bb_n1 : vp_nar .boolean 1 = 1 := by decide
theorem bb_10 : ¬ (1 : Int32) = 0 := by decide
/-! ===== small numbers ===== -/
theorem nb_m20 (n i : Nat) : nI n * 20 + nI i = nI (n * 20 + i) := by
  rw [show (20 : Int32) = nI 20 from rfl, pk_mul, nI_add]
theorem nb_m6 (n i : Nat) : nI n * 6 + nI i = nI (n * 6 + i) := by
  rw [show (6 : Int32) = nI 6 from rfl, pk_mul, nI_add]
theorem nb_m96 (n i : Nat) : nI n * 96 + nI i = nI (n * 96 + i) := by
  rw [show (96 : Int32) = nI 96 from rfl, pk_mul, nI_add]
theorem nb_s1 (n : Nat) : nI n - 1 = nI n + (-1) := by
  rw [Int32.sub_eq_add_neg]
theorem nb_neg : nI 0 + (-1) < 0 := by decide
theorem nb_eq {a b : Nat} (h : nI a = nI b) (ha : a < 2 ^ 31) (hb : b < 2 ^ 31) : a = b := (nI_eq ha hb).mp h
theorem nb_ne {a b : Nat} (h : a ≠ b) (ha : a < 2 ^ 31) (hb : b < 2 ^ 31) : ¬ nI a = nI b := fun e => h (nb_eq e ha hb)
/-- a value that is 0 or 1, by a Bool -/
def nb_b (b : Bool) : Int32 := if b = true then 1 else 0
theorem nb_bt {b : Bool} (h : b = true) : nb_b b = 1 := if_pos h
theorem nb_bf {b : Bool} (h : b = false) : nb_b b = 0 := by rw [h]; rfl
theorem nb_b0 {b : Bool} : nb_b b = 0 ↔ b = false := by cases b <;> decide
theorem nb_nb (b : Bool) : vp_nar .boolean (nb_b b) = nb_b b := by cases b <;> decide
/-! ===== a Prop as a Bool ===== -/
noncomputable def cq_ (p : Prop) : Bool := @decide p (Classical.propDecidable p)
theorem cq_t {p : Prop} : cq_ p = true ↔ p := by unfold cq_; exact @decide_eq_true_iff p (Classical.propDecidable p)
theorem cq_f {p : Prop} : cq_ p = false ↔ ¬ p := by unfold cq_; exact @decide_eq_false_iff_not p (Classical.propDecidable p)
theorem cq_c {p q : Prop} (h : p ↔ q) : cq_ p = cq_ q := by rw [propext h]
theorem cq_b {b : Bool} {p : Prop} (h : b = true ↔ p) : b = cq_ p := by
  cases hb : b
  · exact (cq_f.mpr (fun z => by rw [h.mpr z] at hb; exact absurd hb (by decide))).symm
  · exact (cq_t.mpr (h.mp hb)).symm
/-! ===== counts ===== -/
def cn_n (p : Nat → Bool) : Nat → Nat
  | 0 => 0
  | i + 1 => cn_n p i + (if p i = true then 1 else 0)
theorem cn_s (p : Nat → Bool) (i : Nat) : cn_n p (i + 1) = cn_n p i + (if p i = true then 1 else 0) := rfl
theorem cn_le (p : Nat → Bool) : ∀ N, cn_n p N ≤ N := by
  intro N
  induction N with
  | zero => exact Nat.le_refl 0
  | succ i ih =>
    rw [cn_s]
    by_cases h : p i = true
    · rw [if_pos h]; omega
    · rw [if_neg h]; omega
theorem cn_mono {p q : Nat → Bool} : ∀ N, (∀ i, i < N → p i = true → q i = true) → cn_n p N ≤ cn_n q N := by
  intro N
  induction N with
  | zero => intro _; exact Nat.le_refl 0
  | succ i ih =>
    intro h
    have h1 := ih (fun j hj => h j (by omega))
    rw [cn_s, cn_s]
    by_cases hp : p i = true
    · rw [if_pos hp, if_pos (h i (by omega) hp)]; omega
    · rw [if_neg hp]; omega
theorem cn_lt {p q : Nat → Bool} {x : Nat} (hp : p x = false) (hq : q x = true) : ∀ N, x < N → (∀ i, i < N → p i = true → q i = true) → cn_n p N < cn_n q N := by
  intro N
  induction N with
  | zero => intro h; omega
  | succ i ih =>
    intro hx h
    rw [cn_s, cn_s]
    by_cases hi : x = i
    · have h1 := cn_mono i (p := p) (q := q) (fun j hj => h j (by omega))
      subst hi
      rw [if_neg (by rw [hp]; decide), if_pos hq]; omega
    · have h1 := ih (by omega) (fun j hj => h j (by omega))
      by_cases hpi : p i = true
      · rw [if_pos hpi, if_pos (h i (by omega) hpi)]; omega
      · rw [if_neg hpi]; omega
theorem cn_all : ∀ N, cn_n (fun _ => true) N = N := by
  intro N
  induction N with
  | zero => rfl
  | succ i ih => rw [cn_s, ih, if_pos rfl]
theorem cn_room {p : Nat → Bool} {x N : Nat} (hx : x < N) (hp : p x = false) : cn_n p N < N := by
  have h := cn_lt (q := fun _ => true) hp rfl N hx (fun _ _ _ => rfl)
  rw [cn_all] at h
  exact h
theorem cn_same {p q : Nat → Bool} : ∀ N, (∀ i, i < N → p i = q i) → cn_n p N = cn_n q N := by
  intro N
  induction N with
  | zero => intro _; rfl
  | succ i ih =>
    intro h
    rw [cn_s, cn_s, ih (fun j hj => h j (by omega)), h i (by omega)]
theorem cn_add {p q : Nat → Bool} {x : Nat} (hp : p x = false) (hq : q x = true) : ∀ N, x < N → (∀ i, i < N → i ≠ x → p i = q i) → cn_n q N = cn_n p N + 1 := by
  intro N
  induction N with
  | zero => intro h; omega
  | succ i ih =>
    intro hx h
    rw [cn_s, cn_s]
    by_cases hi : x = i
    · have h1 := cn_same i (p := p) (q := q) (fun j hj => h j (by omega) (by omega))
      subst hi
      rw [if_pos hq, if_neg (show ¬ p x = true by rw [hp]; decide)]; omega
    · have h1 := ih (by omega) (fun j hj => h j (by omega))
      rw [h i (by omega) (by omega)]; omega
theorem cn_zero {p : Nat → Bool} : ∀ N, (∀ i, i < N → p i = false) → cn_n p N = 0 := by
  intro N
  induction N with
  | zero => intro _; rfl
  | succ i ih =>
    intro h
    rw [cn_s, ih (fun j hj => h j (by omega)), if_neg (by rw [h i (by omega)]; decide)]
/-- the marks of a boolean array -/
def cn_b (a : Nat → Int32) : Nat → Bool := fun i => decide (a i ≠ 0)
theorem cn_bt {a : Nat → Int32} {i : Nat} : cn_b a i = true ↔ a i ≠ 0 := decide_eq_true_iff
theorem cn_bf {a : Nat → Int32} {i : Nat} : cn_b a i = false ↔ a i = 0 := by
  unfold cn_b
  rw [decide_eq_false_iff_not]
  exact Decidable.not_not
end
section
/-! ===== the program, as both sides hold it ===== -/
abbrev pg_T : Type := Nat × Nat × (Nat → Nat) × (Nat → Nat) × (Nat → Nat) × (Nat → Nat) × (Nat → Int32) × (Nat → Int32)
def pg_sz (P : pg_T) : Nat := P.1
def pg_vs (P : pg_T) : Nat := P.2.1
def pg_kd (P : pg_T) : Nat → Nat := P.2.2.1
def pg_nm (P : pg_T) : Nat → Nat := P.2.2.2.1
def pg_tg (P : pg_T) : Nat → Nat := P.2.2.2.2.1
def pg_op (P : pg_T) : Nat → Nat := P.2.2.2.2.2.1
def pg_lf (P : pg_T) : Nat → Int32 := P.2.2.2.2.2.2.1
def pg_rt (P : pg_T) : Nat → Int32 := P.2.2.2.2.2.2.2
/-- node n, a SET, reads w -/
def pg_rd (P : pg_T) (n w : Nat) : Prop := w < pg_vs P ∧ pg_kd P n = 0 ∧ pg_op P n ≠ 0 ∧ (pg_lf P n = nI w ∨ (pg_op P n ≠ 4 ∧ pg_rt P n = nI w))
def pg_ok (P : pg_T) : Prop := pg_sz P ≤ 20 ∧ 2 ≤ pg_vs P ∧ pg_vs P ≤ 6 ∧ ∀ n, n < pg_sz P → pg_kd P n < 4 ∧ pg_nm P n < pg_vs P ∧ pg_tg P n ≤ 20 ∧
  (pg_kd P n = 0 → pg_op P n < 5 ∧ (pg_op P n ≠ 0 → ∃ a, a < pg_vs P ∧ pg_lf P n = nI a) ∧ (pg_op P n ≠ 0 → pg_op P n ≠ 4 → ∃ b, b < pg_vs P ∧ pg_rt P n = nI b))
def pg_cd (P : pg_T) (n : Nat) : Nat := if pg_kd P n = 0 then pg_op P n else pg_kd P n + 4
def pg_X (P : pg_T) (c s l r d u : Nat → Int32) : Prop := ∀ n, n < pg_sz P → c n = nI (pg_cd P n) ∧ s n = nI (pg_nm P n) ∧ d n = nI (pg_tg P n) ∧
  (pg_kd P n = 0 → l n = pg_lf P n ∧ r n = pg_rt P n ∧ ∀ w, w < 32 → (bt (u n) w = true ↔ pg_rd P n w))
def pg_Y (P : pg_T) (k m o l r g : Nat → Int32) : Prop := ∀ n, n < pg_sz P → k n = nI (pg_kd P n) ∧ m n = nI (pg_nm P n) ∧ g n = nI (pg_tg P n) ∧
  (pg_kd P n = 0 → o n = nI (pg_op P n) ∧ l n = pg_lf P n ∧ r n = pg_rt P n)
/-- edges -/
def pg_te (P : pg_T) (n k : Nat) : Nat := if k = 1 ∨ pg_kd P n = 3 then pg_tg P n else n + 1
def pg_ec (P : pg_T) (n : Nat) : Nat := if pg_kd P n = 2 then 2 else 1
/-- entries -/
def pg_e1 (P : pg_T) (m n : Nat) : Nat := (if pg_kd P n ≠ 3 ∧ n + 1 = m then 1 else 0) + (if (pg_kd P n = 3 ∨ pg_kd P n = 2) ∧ pg_tg P n = m then 1 else 0)
def pg_eS (P : pg_T) (m : Nat) : Nat → Nat
  | 0 => 0
  | j + 1 => pg_eS P m j + pg_e1 P m j
def pg_en (P : pg_T) (m : Nat) : Nat := (if m = 0 then 1 else 0) + pg_eS P m (pg_sz P)
section
variable {P : pg_T}
theorem pg_sz20 (ok : pg_ok P) : pg_sz P ≤ 20 := ok.1
theorem pg_vs6 (ok : pg_ok P) : pg_vs P ≤ 6 := ok.2.2.1
theorem pg_vs2 (ok : pg_ok P) : 2 ≤ pg_vs P := ok.2.1
theorem pg_kd4 (ok : pg_ok P) {n : Nat} (hn : n < pg_sz P) : pg_kd P n < 4 := (ok.2.2.2 n hn).1
theorem pg_nmv (ok : pg_ok P) {n : Nat} (hn : n < pg_sz P) : pg_nm P n < pg_vs P := (ok.2.2.2 n hn).2.1
theorem pg_nm6 (ok : pg_ok P) {n : Nat} (hn : n < pg_sz P) : pg_nm P n < 6 := Nat.lt_of_lt_of_le (pg_nmv ok hn) (pg_vs6 ok)
theorem pg_tg20 (ok : pg_ok P) {n : Nat} (hn : n < pg_sz P) : pg_tg P n ≤ 20 := (ok.2.2.2 n hn).2.2.1
theorem pg_op5 (ok : pg_ok P) {n : Nat} (hn : n < pg_sz P) (hk : pg_kd P n = 0) : pg_op P n < 5 := ((ok.2.2.2 n hn).2.2.2 hk).1
theorem pg_cd8 (ok : pg_ok P) {n : Nat} (hn : n < pg_sz P) : pg_cd P n < 8 := by
  unfold pg_cd
  by_cases h : pg_kd P n = 0
  · rw [if_pos h]; have := pg_op5 ok hn h; omega
  · rw [if_neg h]; have := pg_kd4 ok hn; omega
theorem pg_cd4 (ok : pg_ok P) {n : Nat} (hn : n < pg_sz P) : pg_kd P n = 0 ↔ pg_cd P n ≤ 4 := by
  unfold pg_cd
  by_cases h : pg_kd P n = 0
  · rw [if_pos h]; have := pg_op5 ok hn h; constructor <;> intro _ <;> omega
  · rw [if_neg h]; constructor <;> intro _ <;> omega
theorem pg_cdk (ok : pg_ok P) {n k : Nat} (hn : n < pg_sz P) (hk : 0 < k) : pg_cd P n = k + 4 ↔ pg_kd P n = k := by
  unfold pg_cd
  by_cases h : pg_kd P n = 0
  · rw [if_pos h]; have := pg_op5 ok hn h; constructor <;> intro _ <;> omega
  · rw [if_neg h]; constructor <;> intro _ <;> omega
theorem pg_cd0 {n : Nat} (h : pg_kd P n = 0) : pg_cd P n = pg_op P n := if_pos h
theorem pg_te20 (ok : pg_ok P) {n k : Nat} (hn : n < pg_sz P) : pg_te P n k ≤ 20 := by
  unfold pg_te
  by_cases h : k = 1 ∨ pg_kd P n = 3
  · rw [if_pos h]; exact pg_tg20 ok hn
  · rw [if_neg h]; have := pg_sz20 ok; omega
theorem pg_ec12 (n : Nat) : pg_ec P n = 1 ∨ pg_ec P n = 2 := by
  unfold pg_ec
  by_cases h : pg_kd P n = 2
  · exact Or.inr (if_pos h)
  · exact Or.inl (if_neg h)
theorem pg_rdv {n w : Nat} (h : pg_rd P n w) : w < pg_vs P := h.1
theorem pg_rd6 (ok : pg_ok P) {n w : Nat} (h : pg_rd P n w) : w < 6 := Nat.lt_of_lt_of_le h.1 (pg_vs6 ok)
/-! ===== two ways into a node ===== -/
theorem pg_e1p {m n k : Nat} (hk : k < pg_ec P n) (h : pg_te P n k = m) : 1 ≤ pg_e1 P m n := by
  unfold pg_te at h
  unfold pg_ec at hk
  unfold pg_e1
  by_cases h1 : k = 1 ∨ pg_kd P n = 3
  · rw [if_pos h1] at h
    have h2 : pg_kd P n = 3 ∨ pg_kd P n = 2 := by
      rcases h1 with h1 | h1
      · by_cases h3 : pg_kd P n = 2
        · exact Or.inr h3
        · rw [if_neg h3] at hk; omega
      · exact Or.inl h1
    rw [if_pos (show (pg_kd P n = 3 ∨ pg_kd P n = 2) ∧ pg_tg P n = m from ⟨h2, h⟩)]
    omega
  · rw [if_neg h1] at h
    rw [if_pos (show pg_kd P n ≠ 3 ∧ n + 1 = m from ⟨fun z => h1 (Or.inr z), h⟩)]
    omega
theorem pg_e2p {m n k k' : Nat} (hk : k < pg_ec P n) (hk' : k' < pg_ec P n) (h : pg_te P n k = m) (h' : pg_te P n k' = m) (hne : k ≠ k') : 2 ≤ pg_e1 P m n := by
  unfold pg_ec at hk hk'
  have h2 : pg_kd P n = 2 := by
    by_cases h3 : pg_kd P n = 2
    · exact h3
    · rw [if_neg h3] at hk hk'; omega
  rw [if_pos h2] at hk hk'
  have t0 : pg_te P n 0 = n + 1 := if_neg (by omega)
  have t1 : pg_te P n 1 = pg_tg P n := if_pos (Or.inl rfl)
  have a0 : n + 1 = m := by
    rcases (by omega : k = 0 ∨ k' = 0) with e | e
    · rw [e, t0] at h; exact h
    · rw [e, t0] at h'; exact h'
  have a1 : pg_tg P n = m := by
    rcases (by omega : k = 1 ∨ k' = 1) with e | e
    · rw [e, t1] at h; exact h
    · rw [e, t1] at h'; exact h'
  unfold pg_e1
  rw [if_pos (show pg_kd P n ≠ 3 ∧ n + 1 = m from ⟨by omega, a0⟩), if_pos (show (pg_kd P n = 3 ∨ pg_kd P n = 2) ∧ pg_tg P n = m from ⟨Or.inr h2, a1⟩)]
  omega
theorem pg_eSm {m : Nat} : ∀ {j i : Nat}, i ≤ j → pg_eS P m i ≤ pg_eS P m j := by
  intro j
  induction j with
  | zero => intro i h; rw [show i = 0 by omega]; exact Nat.le_refl _
  | succ j ih =>
    intro i h
    by_cases e : i = j + 1
    · rw [e]; exact Nat.le_refl _
    · have := ih (i := i) (by omega)
      show _ ≤ pg_eS P m j + pg_e1 P m j
      omega
theorem pg_eS1 {m n j : Nat} (hn : n < j) : pg_e1 P m n ≤ pg_eS P m j := by
  have h := pg_eSm (P := P) (m := m) (show n + 1 ≤ j by omega)
  have e : pg_eS P m (n + 1) = pg_eS P m n + pg_e1 P m n := rfl
  omega
theorem pg_eS2 {m n n' j : Nat} (hn : n < n') (hj : n' < j) : pg_e1 P m n + pg_e1 P m n' ≤ pg_eS P m j := by
  have h := pg_eSm (P := P) (m := m) (show n' + 1 ≤ j by omega)
  have e : pg_eS P m (n' + 1) = pg_eS P m n' + pg_e1 P m n' := rfl
  have h1 := pg_eS1 (P := P) (m := m) hn
  omega
theorem pg_en2 {m n k n' k' : Nat} (hn : n < pg_sz P) (hn' : n' < pg_sz P) (hk : k < pg_ec P n) (hk' : k' < pg_ec P n') (h : pg_te P n k = m) (h' : pg_te P n' k' = m) (hne : ¬ (n = n' ∧ k = k')) : 2 ≤ pg_en P m := by
  unfold pg_en
  by_cases e : n = n'
  · subst e
    have h1 := pg_e2p hk hk' h h' (fun z => hne ⟨rfl, z⟩)
    have h2 := pg_eS1 (P := P) (m := m) hn
    omega
  · have a := pg_e1p hk h
    have b := pg_e1p hk' h'
    rcases Nat.lt_or_gt_of_ne e with z | z
    · have := pg_eS2 (P := P) (m := m) z hn'; omega
    · have := pg_eS2 (P := P) (m := m) z hn; omega
theorem pg_en0 {n k : Nat} (hn : n < pg_sz P) (hk : k < pg_ec P n) (h : pg_te P n k = 0) : 2 ≤ pg_en P 0 := by
  unfold pg_en
  have a := pg_e1p hk h
  have b := pg_eS1 (P := P) (m := 0) hn
  rw [if_pos rfl]
  omega
theorem pg_en40 (m : Nat) : ∀ j, pg_eS P m j ≤ 2 * j := by
  intro j
  induction j with
  | zero => exact Nat.le_refl 0
  | succ j ih =>
    show pg_eS P m j + pg_e1 P m j ≤ _
    have : pg_e1 P m j ≤ 2 := by
      unfold pg_e1
      by_cases h1 : pg_kd P j ≠ 3 ∧ j + 1 = m
      · rw [if_pos h1]
        by_cases h2 : (pg_kd P j = 3 ∨ pg_kd P j = 2) ∧ pg_tg P j = m
        · rw [if_pos h2]; omega
        · rw [if_neg h2]; omega
      · rw [if_neg h1]
        by_cases h2 : (pg_kd P j = 3 ∨ pg_kd P j = 2) ∧ pg_tg P j = m
        · rw [if_pos h2]; omega
        · rw [if_neg h2]; omega
    omega
theorem pg_en41 (ok : pg_ok P) (m : Nat) : pg_en P m ≤ 41 := by
  unfold pg_en
  have := pg_en40 (P := P) m (pg_sz P)
  have := pg_sz20 ok
  by_cases h : m = 0
  · rw [if_pos h]; omega
  · rw [if_neg h]; omega
end
/-! ===== needed: the least closed set ===== -/
def nd_us (P : pg_T) (n w : Nat) : Prop := (pg_kd P n = 1 ∨ pg_kd P n = 2) ∧ pg_nm P n = w
def nd_pr (P : pg_T) (n w n' w' : Nat) : Prop := n' < pg_sz P ∧ ((¬ (pg_kd P n = 0 ∧ pg_nm P n = w) ∧ w' = w ∧ ((pg_kd P n ≠ 3 ∧ n' = n + 1) ∨ ((pg_kd P n = 3 ∨ pg_kd P n = 2) ∧ n' = pg_tg P n))) ∨ (pg_rd P n w ∧ n' = n + 1 ∧ w' = pg_nm P n))
def nd_N (P : pg_T) (n w : Nat) : Prop := ∀ S : Nat → Nat → Prop, (∀ n w, n < pg_sz P → nd_us P n w → S n w) → (∀ n w n' w', n < pg_sz P → nd_pr P n w n' w' → S n' w' → S n w) → S n w
def nd_B (P : pg_T) (F : Nat → Nat → Prop) (n w : Nat) : Prop := nd_us P n w ∨ ∃ n' w', nd_pr P n w n' w' ∧ F n' w'
section
variable {P : pg_T}
theorem nd_u {n w : Nat} (hn : n < pg_sz P) (h : nd_us P n w) : nd_N P n w := fun _ a _ => a n w hn h
theorem nd_s {n w n' w' : Nat} (hn : n < pg_sz P) (h : nd_pr P n w n' w') (h2 : nd_N P n' w') : nd_N P n w := fun S a b => b n w n' w' hn h (h2 S a b)
theorem nd_v (ok : pg_ok P) {n w : Nat} (h : nd_N P n w) : w < pg_vs P := by
  refine h (fun _ w => w < pg_vs P) ?_ ?_
  · intro n w hn u
    rw [← u.2]; exact pg_nmv ok hn
  · intro n w n' w' hn p s
    rcases p.2 with q | q
    · rw [← q.2.1]; exact s
    · exact q.1.1
theorem nd_w' (ok : pg_ok P) {n w n' w' : Nat} (hn : n < pg_sz P) (hw : w < 32) (h : nd_pr P n w n' w') : w' < 32 := by
  rcases h.2 with q | q
  · rw [q.2.1]; exact hw
  · rw [q.2.2]; have := pg_nm6 ok hn; omega
theorem nd_Bm (ok : pg_ok P) {F G : Nat → Nat → Prop} {n w : Nat} (hn : n < pg_sz P) (hw : w < 32) (h : ∀ n' w', n' < pg_sz P → w' < 32 → F n' w' → G n' w') (b : nd_B P F n w) : nd_B P G n w := by
  rcases b with u | ⟨n', w', p, f⟩
  · exact Or.inl u
  · exact Or.inr ⟨n', w', p, h n' w' p.1 (nd_w' ok hn hw p) f⟩
theorem nd_BN (ok : pg_ok P) {F : Nat → Nat → Prop} {n w : Nat} (hn : n < pg_sz P) (hw : w < 32) (h : ∀ n' w', n' < pg_sz P → w' < 32 → F n' w' → nd_N P n' w') (b : nd_B P F n w) : nd_N P n w := by
  rcases b with u | ⟨n', w', p, f⟩
  · exact nd_u hn u
  · exact nd_s hn p (h n' w' p.1 (nd_w' ok hn hw p) f)
/-- a closed set holds all that is needed -/
theorem nd_cl (ok : pg_ok P) {F : Nat → Nat → Prop} (h : ∀ n w, n < pg_sz P → w < 32 → nd_B P F n w → F n w) {n w : Nat} (hN : nd_N P n w) : F n w := by
  have key : w < 32 → F n w := by
    refine hN (fun n w => w < 32 → F n w) ?_ ?_
    · intro n w hn u hw
      exact h n w hn hw (Or.inl u)
    · intro n w n' w' hn p s hw
      exact h n w hn hw (Or.inr ⟨n', w', p, s (nd_w' ok hn hw p)⟩)
  exact key (by have := nd_v ok hN; have := pg_vs6 ok; omega)
end
/-! ===== lists in arrays ===== -/
def sq_R (a : Nat → Int32) (o : Nat) (l : List Nat) : Prop := ∀ i, i < l.length → a (o + i) = nI (l.getD i 0)
/-- row b (of 20 places) of the arrays a (contents) and z (lengths) holds l -/
def sq_B (a z : Nat → Int32) (b : Nat) (l : List Nat) : Prop := z b = nI l.length ∧ sq_R a (b * 20) l ∧ l.length ≤ 20
/-- a', z' differ from a, z in row b alone -/
def sq_O (a z a' z' : Nat → Int32) (b : Nat) : Prop := (∀ c, c ≠ b → z' c = z c) ∧ ∀ j, (j < b * 20 ∨ b * 20 + 20 ≤ j) → a' j = a j
def sq_V (P : pg_T) (l : List Nat) : Prop := ∀ e, e ∈ l → e < pg_sz P ∧ pg_kd P e = 0
theorem sq_Bo {a z a' z' : Nat → Int32} {b c : Nat} {l : List Nat} (h : sq_O a z a' z' b) (hc : c ≠ b) (hB : sq_B a z c l) : sq_B a' z' c l := by
  refine ⟨(h.1 c hc).trans hB.1, ?_, hB.2.2⟩
  intro i hi
  rw [h.2 _ (by have := hB.2.2; omega)]
  exact hB.2.1 i hi
theorem sq_O0 {a z : Nat → Int32} {b : Nat} : sq_O a z a z b := ⟨fun _ _ => rfl, fun _ _ => rfl⟩
theorem sq_Ot {a z a' z' a'' z'' : Nat → Int32} {b : Nat} (h : sq_O a z a' z' b) (h' : sq_O a' z' a'' z'' b) : sq_O a z a'' z'' b :=
  ⟨fun c hc => (h'.1 c hc).trans (h.1 c hc), fun j hj => (h'.2 j hj).trans (h.2 j hj)⟩
theorem sq_g {l : List Nat} {i : Nat} (h : i < l.length) : l.getD i 0 ∈ l := by
  rw [List.getD_eq_getElem?_getD, List.getElem?_eq_getElem h]
  exact List.getElem_mem h
theorem sq_ga {l : List Nat} {x i : Nat} (h : i < l.length) : (l ++ [x]).getD i 0 = l.getD i 0 := by
  rw [List.getD_eq_getElem?_getD, List.getD_eq_getElem?_getD, List.getElem?_append_left h]
theorem sq_gl {l : List Nat} {x : Nat} : (l ++ [x]).getD l.length 0 = x := by
  rw [List.getD_eq_getElem?_getD, List.getElem?_append_right (Nat.le_refl _), Nat.sub_self]
  rfl
theorem sq_len {l : List Nat} {x : Nat} : (l ++ [x]).length = l.length + 1 := by
  rw [List.length_append]; rfl
theorem sq_Rn {a : Nat → Int32} {o : Nat} : sq_R a o [] := fun i hi => absurd hi (Nat.not_lt_zero i)
theorem sq_Ra {a : Nat → Int32} {o x : Nat} {l : List Nat} (h : sq_R a o l) (hx : a (o + l.length) = nI x) : sq_R a o (l ++ [x]) := by
  intro i hi
  rw [sq_len] at hi
  by_cases e : i = l.length
  · rw [e, sq_gl]; exact hx
  · rw [sq_ga (by omega)]; exact h i (by omega)
/-- what is kept: g i for the i below the count with no flag -/
def sq_k (g : Nat → Nat) (F : Nat → Bool) : Nat → List Nat
  | 0 => []
  | i + 1 => if F i = true then sq_k g F i else sq_k g F i ++ [g i]
theorem sq_kt {g : Nat → Nat} {F : Nat → Bool} {i : Nat} (h : F i = true) : sq_k g F (i + 1) = sq_k g F i := if_pos h
theorem sq_kf {g : Nat → Nat} {F : Nat → Bool} {i : Nat} (h : F i = false) : sq_k g F (i + 1) = sq_k g F i ++ [g i] := if_neg (by rw [h]; decide)
theorem sq_kl {g : Nat → Nat} {F : Nat → Bool} : ∀ i, (sq_k g F i).length ≤ i := by
  intro i
  induction i with
  | zero => exact Nat.le_refl 0
  | succ i ih =>
    cases h : F i
    · rw [sq_kf h, sq_len]; omega
    · rw [sq_kt h]; omega
theorem sq_km {g : Nat → Nat} {F : Nat → Bool} {e : Nat} : ∀ i, e ∈ sq_k g F i → ∃ j, j < i ∧ e = g j := by
  intro i
  induction i with
  | zero => intro h; exact absurd h List.not_mem_nil
  | succ i ih =>
    intro he
    cases h : F i
    · rw [sq_kf h] at he
      rcases List.mem_append.mp he with a | a
      · obtain ⟨j, hj, e1⟩ := ih a
        exact ⟨j, by omega, e1⟩
      · exact ⟨i, by omega, List.mem_singleton.mp a⟩
    · rw [sq_kt h] at he
      obtain ⟨j, hj, e1⟩ := ih he
      exact ⟨j, by omega, e1⟩
/-- place i of a list -/
def sq_a (l : List Nat) : Nat → Nat := fun i => l.getD i 0
theorem sq_kV {P : pg_T} {l : List Nat} {F : Nat → Bool} (h : sq_V P l) : sq_V P (sq_k (sq_a l) F l.length) := by
  intro e he
  obtain ⟨j, hj, e1⟩ := sq_km _ he
  rw [e1]
  exact h _ (sq_g hj)
/-- flags in an array, from lo up to hi -/
def sq_F (p : Nat → Int32) (F : Nat → Bool) (lo hi : Nat) : Prop := ∀ i, lo ≤ i → i < hi → p i = nb_b (F i)
/-! ===== sift: live after d places from the right ===== -/
noncomputable def sq_sv (P : pg_T) (g : Nat → Nat) (len : Nat) (L : Nat → Bool) : Nat → Nat → Bool
  | 0 => L
  | d + 1 => fun w => if sq_sv P g len L d (pg_nm P (g (len - 1 - d))) = true then (cq_ (pg_rd P (g (len - 1 - d)) w) || (sq_sv P g len L d w && !decide (w = pg_nm P (g (len - 1 - d))))) else sq_sv P g len L d w
noncomputable def sq_sf (P : pg_T) (g : Nat → Nat) (len : Nat) (L : Nat → Bool) (i : Nat) : Bool := !sq_sv P g len L (len - 1 - i) (pg_nm P (g i))
noncomputable def sq_L (P : pg_T) (m : Nat) : Nat → Bool := fun w => cq_ (nd_N P m w)
noncomputable def sq_s (P : pg_T) (m : Nat) (l : List Nat) : List Nat := sq_k (sq_a l) (sq_sf P (sq_a l) l.length (sq_L P m)) l.length
/-! ===== pull: flags after d places from the right ===== -/
def sq_cl (P : pg_T) (x y : Nat) : Prop := pg_nm P x = pg_nm P y ∨ pg_rd P x (pg_nm P y) ∨ pg_rd P y (pg_nm P x)
noncomputable def sq_pf (P : pg_T) (g : Nat → Nat) (len v : Nat) : Nat → Nat → Bool
  | 0 => fun _ => false
  | d + 1 => fun i => if i = len - 1 - d then cq_ (pg_nm P (g i) = v ∨ ∃ j, j < len ∧ sq_pf P g len v d j = true ∧ sq_cl P (g i) (g j)) else sq_pf P g len v d i
noncomputable def sq_fl (P : pg_T) (v : Nat) (l : List Nat) : Nat → Bool := sq_pf P (sq_a l) l.length v l.length
noncomputable def sq_pl (P : pg_T) (v : Nat) (l : List Nat) : List Nat := sq_k (sq_a l) (fun i => !sq_fl P v l i) l.length
noncomputable def sq_pr (P : pg_T) (v : Nat) (l : List Nat) : List Nat := sq_k (sq_a l) (sq_fl P v l) l.length
/-! ===== a node's own work: what it pulls, what leaves it ===== -/
noncomputable def sq_PL (P : pg_T) (n : Nat) (l : List Nat) : List Nat := if pg_kd P n = 1 ∨ pg_kd P n = 2 then sq_pl P (pg_nm P n) (sq_s P n l) else []
noncomputable def sq_DD (P : pg_T) (n : Nat) (l : List Nat) : List Nat := if pg_kd P n = 0 then l ++ [n] else if pg_kd P n = 3 then l else sq_pr P (pg_nm P n) (sq_s P n l)
section
variable {P : pg_T} {l : List Nat}
theorem sq_sl {m : Nat} : (sq_s P m l).length ≤ l.length := sq_kl _
theorem sq_sV {m : Nat} (h : sq_V P l) : sq_V P (sq_s P m l) := sq_kV h
theorem sq_plV {v : Nat} (h : sq_V P l) : sq_V P (sq_pl P v l) := sq_kV h
theorem sq_prV {v : Nat} (h : sq_V P l) : sq_V P (sq_pr P v l) := sq_kV h
theorem sq_pll {v : Nat} : (sq_pl P v l).length ≤ l.length := sq_kl _
theorem sq_prl {v : Nat} : (sq_pr P v l).length ≤ l.length := sq_kl _
theorem sq_sn {m : Nat} : sq_s P m [] = [] := rfl
theorem sq_Vn : sq_V P [] := fun _ h => absurd h List.not_mem_nil
theorem sq_Va {n : Nat} (h : sq_V P l) (hn : n < pg_sz P) (hk : pg_kd P n = 0) : sq_V P (l ++ [n]) := by
  intro e he
  rcases List.mem_append.mp he with a | a
  · exact h e a
  · rw [List.mem_singleton.mp a]; exact ⟨hn, hk⟩
theorem sq_DDV {n : Nat} (h : sq_V P l) (hn : n < pg_sz P) : sq_V P (sq_DD P n l) := by
  unfold sq_DD
  by_cases h0 : pg_kd P n = 0
  · rw [if_pos h0]; exact sq_Va h hn h0
  · rw [if_neg h0]
    by_cases h3 : pg_kd P n = 3
    · rw [if_pos h3]; exact h
    · rw [if_neg h3]; exact sq_prV (sq_sV h)
theorem sq_DDl {n : Nat} : (sq_DD P n l).length ≤ l.length + 1 := by
  unfold sq_DD
  by_cases h0 : pg_kd P n = 0
  · rw [if_pos h0, sq_len]; exact Nat.le_refl _
  · rw [if_neg h0]
    by_cases h3 : pg_kd P n = 3
    · rw [if_pos h3]; omega
    · rw [if_neg h3]
      have a := sq_prl (P := P) (v := pg_nm P n) (l := sq_s P n l)
      have b := sq_sl (P := P) (m := n) (l := l)
      omega
end
end
section
/-! ===== pure: edges counted, needs by edges ===== -/
def pg_p (P : pg_T) (n m k : Nat) : Nat := (if 0 < k ∧ pg_te P n 0 = m then 1 else 0) + (if 1 < k ∧ pg_te P n 1 = m then 1 else 0)
section
variable {P : pg_T}
theorem pg_p0 (n m : Nat) : pg_p P n m 0 = 0 := by unfold pg_p; simp
theorem pg_ps {n m k : Nat} (hk : k < 2) : pg_p P n m (k + 1) = pg_p P n m k + (if pg_te P n k = m then 1 else 0) := by
  unfold pg_p
  rcases (by omega : k = 0 ∨ k = 1) with e | e
  · subst e; simp
  · subst e; simp
theorem pg_pe (n m : Nat) : pg_p P n m (pg_ec P n) = pg_e1 P m n := by
  unfold pg_p pg_ec pg_e1 pg_te
  by_cases h2 : pg_kd P n = 2
  · simp [h2]
  · by_cases h3 : pg_kd P n = 3
    · simp [h3]
    · simp [h2, h3]
def nd_E (P : pg_T) (F : Nat → Nat → Prop) (n e w : Nat) : Prop := ∃ k, k < e ∧ pg_te P n k < pg_sz P ∧ F (pg_te P n k) w
theorem nd_BE {F : Nat → Nat → Prop} {n w : Nat} : nd_B P F n w ↔ nd_us P n w ∨ (¬ (pg_kd P n = 0 ∧ pg_nm P n = w) ∧ nd_E P F n (pg_ec P n) w) ∨ (pg_rd P n w ∧ nd_E P F n (pg_ec P n) (pg_nm P n)) := by
  have t0 : pg_kd P n ≠ 3 → pg_te P n 0 = n + 1 := fun h => if_neg (by rintro (z | z); exact absurd z (by decide); exact h z)
  have t3 : pg_kd P n = 3 → pg_te P n 0 = pg_tg P n := fun h => if_pos (Or.inr h)
  have t1 : pg_te P n 1 = pg_tg P n := if_pos (Or.inl rfl)
  have e0 : 0 < pg_ec P n := by rcases pg_ec12 (P := P) n with h | h <;> omega
  have e2 : pg_kd P n = 2 → pg_ec P n = 2 := fun h => if_pos h
  have e1 : pg_kd P n ≠ 2 → pg_ec P n = 1 := fun h => if_neg h
  constructor
  · rintro (u | ⟨n', w', ⟨hl, h⟩, f⟩)
    · exact Or.inl u
    · rcases h with ⟨h1, h2, h3⟩ | ⟨h1, h2, h3⟩
      · subst h2
        refine Or.inr (Or.inl ⟨h1, ?_⟩)
        rcases h3 with ⟨h4, h5⟩ | ⟨h4, h5⟩
        · subst h5
          exact ⟨0, e0, by rw [t0 h4]; exact hl, by rw [t0 h4]; exact f⟩
        · subst h5
          rcases h4 with h4 | h4
          · exact ⟨0, e0, by rw [t3 h4]; exact hl, by rw [t3 h4]; exact f⟩
          · exact ⟨1, by rw [e2 h4]; decide, by rw [t1]; exact hl, by rw [t1]; exact f⟩
      · subst h2 h3
        have h4 : pg_kd P n ≠ 3 := by rw [h1.2.1]; decide
        exact Or.inr (Or.inr ⟨h1, 0, e0, by rw [t0 h4]; exact hl, by rw [t0 h4]; exact f⟩)
  · rintro (u | ⟨h1, k, hk, hl, f⟩ | ⟨h1, k, hk, hl, f⟩)
    · exact Or.inl u
    · refine Or.inr ⟨pg_te P n k, w, ⟨hl, Or.inl ⟨h1, rfl, ?_⟩⟩, f⟩
      by_cases h2 : pg_kd P n = 2
      · rw [e2 h2] at hk
        rcases (by omega : k = 0 ∨ k = 1) with e | e
        · subst e; exact Or.inl ⟨by rw [h2]; decide, t0 (by rw [h2]; decide)⟩
        · subst e; exact Or.inr ⟨Or.inr h2, t1⟩
      · rw [e1 h2] at hk
        have e : k = 0 := by omega
        subst e
        by_cases h3 : pg_kd P n = 3
        · exact Or.inr ⟨Or.inl h3, t3 h3⟩
        · exact Or.inl ⟨h3, t0 h3⟩
    · have h4 : pg_kd P n = 0 := h1.2.1
      rw [e1 (by rw [h4]; decide)] at hk
      have e : k = 0 := by omega
      subst e
      exact Or.inr ⟨pg_te P n 0, pg_nm P n, ⟨hl, Or.inr ⟨h1, t0 (by rw [h4]; decide), rfl⟩⟩, f⟩
end
section
variable {f_opOut f_opBranch f_opJump f_cap f_vars f_size f_sealed f_queued f_workLen : Int32} {a_code a_subject a_left a_right a_dest a_uses a_entryCount a_need a_sched a_schedLen a_held a_heldLen a_reached a_queue a_work a_picked a_inputs a_store a_outs a_outLen a_counts : Nat → Int32}
variable {P : pg_T}
/-! ===== X's small questions ===== -/
theorem qx_edgeCount {post : Int32 → Prop} {n : Nat} (ok : pg_ok P) (pX : pg_X P a_code a_subject a_left a_right a_dest a_uses) (hn : n < pg_sz P) (K : post (nI (pg_ec P n))) : wpX_edgeCount post (f_opOut, f_opBranch, f_opJump, f_cap, f_vars, f_size, f_sealed, f_queued, f_workLen, a_code, a_subject, a_left, a_right, a_dest, a_uses, a_entryCount, a_need, a_sched, a_schedLen, a_held, a_heldLen, a_reached, a_queue, a_work, a_picked, a_inputs, a_store, a_outs, a_outLen, a_counts) (nI n) := by
  have h20 := pg_sz20 ok
  have hc : a_code (nI n).toNatClampNeg = nI (pg_cd P n) := by rw [nI_clamp (by omega)]; exact (pX n hn).1
  have h8 := pg_cd8 ok hn
  unfold pg_ec at K
  refine And.intro (vp_in_nI (by omega) (by omega)) (pk_eq (pg_cd P n) 6 (fun h => ?_) (fun h => ?_) hc)
  · rw [if_pos ((pg_cdk (k := 2) ok hn (by omega)).mp h)] at K; exact K
  · rw [if_neg (fun z => h ((pg_cdk (k := 2) ok hn (by omega)).mpr z))] at K; exact K
theorem qx_edgeTarget {post : Int32 → Prop} {n k : Nat} (ok : pg_ok P) (pX : pg_X P a_code a_subject a_left a_right a_dest a_uses) (hn : n < pg_sz P) (hk : k < 2) (K : post (nI (pg_te P n k))) : wpX_edgeTarget post (f_opOut, f_opBranch, f_opJump, f_cap, f_vars, f_size, f_sealed, f_queued, f_workLen, a_code, a_subject, a_left, a_right, a_dest, a_uses, a_entryCount, a_need, a_sched, a_schedLen, a_held, a_heldLen, a_reached, a_queue, a_work, a_picked, a_inputs, a_store, a_outs, a_outLen, a_counts) (nI n) (nI k) := by
  have h20 := pg_sz20 ok
  have hc : a_code (nI n).toNatClampNeg = nI (pg_cd P n) := by rw [nI_clamp (by omega)]; exact (pX n hn).1
  have hd : a_dest (nI n).toNatClampNeg = nI (pg_tg P n) := by rw [nI_clamp (by omega)]; exact (pX n hn).2.2.1
  have h8 := pg_cd8 ok hn
  have hi : vp_in (nI n) 20 := vp_in_nI (by omega) (by omega)
  unfold pg_te at K
  refine pk_eq k 1 (fun h => And.intro hi ?_) (fun h => And.intro hi (pk_eq (pg_cd P n) 7 (fun h2 => And.intro hi ?_) (fun h2 => ?_) hc))
  · rw [if_pos (Or.inl h)] at K; rw [hd]; exact K
  · rw [if_pos (Or.inr ((pg_cdk (k := 3) ok hn (by omega)).mp h2))] at K; rw [hd]; exact K
  · rw [if_neg (by rintro (z | z); exact h z; exact h2 ((pg_cdk (k := 3) ok hn (by omega)).mpr z))] at K; rw [nI_1]; exact K
theorem qx_isSet {post : Int32 → Prop} {n : Nat} (ok : pg_ok P) (pX : pg_X P a_code a_subject a_left a_right a_dest a_uses) (hn : n < pg_sz P) (K1 : pg_kd P n = 0 → post 1) (K0 : pg_kd P n ≠ 0 → post 0) : wpX_isSet post (f_opOut, f_opBranch, f_opJump, f_cap, f_vars, f_size, f_sealed, f_queued, f_workLen, a_code, a_subject, a_left, a_right, a_dest, a_uses, a_entryCount, a_need, a_sched, a_schedLen, a_held, a_heldLen, a_reached, a_queue, a_work, a_picked, a_inputs, a_store, a_outs, a_outLen, a_counts) (nI n) := by
  have h20 := pg_sz20 ok
  have hc : a_code (nI n).toNatClampNeg = nI (pg_cd P n) := by rw [nI_clamp (by omega)]; exact (pX n hn).1
  have h8 := pg_cd8 ok hn
  have h4 := pg_cd4 ok hn
  exact And.intro (vp_in_nI (by omega) (by omega)) (pk_lt 4 (pg_cd P n) (fun h => K0 (fun z => by have := h4.mp z; omega)) (fun h => K1 (h4.mpr h)) rfl hc)
/-! ===== countEntries ===== -/
theorem qx_ce46 {post : SX → Prop} {J30 : Int32 → (Nat → Int32) → (Nat → Int32) → (Nat → Int32) → (Nat → Int32) → (Nat → Int32) → (Nat → Int32) → (Nat → Int32) → (Nat → Int32) → (Nat → Int32) → (Nat → Int32) → (Nat → Int32) → (Nat → Int32) → (Nat → Int32) → (Nat → Int32) → (Nat → Int32) → (Nat → Int32) → (Nat → Int32) → (Nat → Int32) → (Nat → Int32) → (Nat → Int32) → (Nat → Int32) →  Prop} {n : Nat} {c : Nat → Nat} (ok : pg_ok P) (pX : pg_X P a_code a_subject a_left a_right a_dest a_uses) (hn : n < pg_sz P) (hc : ∀ m, c m ≤ 50)
    (K : ∀ E', (∀ m, m < pg_sz P → E' m = nI (c m + pg_e1 P m n)) → J30 (nI (n + 1)) a_code a_subject a_left a_right a_dest a_uses E' a_need a_sched a_schedLen a_held a_heldLen a_reached a_queue a_work a_picked a_inputs a_store a_outs a_outLen a_counts) :
    ∀ (d k : Nat) (E : Nat → Int32), k + d = pg_ec P n → (∀ m, m < pg_sz P → E m = nI (c m + pg_p P n m k)) →
    wX_countEntries_46 post J30 (nI n) (nI (pg_ec P n)) f_opOut f_opBranch f_opJump f_cap f_vars (nI (pg_sz P)) f_sealed f_queued f_workLen (d + 1) (nI k) a_code a_subject a_left a_right a_dest a_uses E a_need a_sched a_schedLen a_held a_heldLen a_reached a_queue a_work a_picked a_inputs a_store a_outs a_outLen a_counts := by
  have h20 := pg_sz20 ok
  have hec := pg_ec12 (P := P) n
  intro d
  induction d with
  | zero =>
    intro k E hk hE
    refine br_t (nI_le (by omega) (by omega)) (nm_r (nI_1 n) (K E ?_))
    intro m hm
    rw [← pg_pe, ← hk]; exact hE m hm
  | succ d ih =>
    intro k E hk hE
    refine br_f (nI_ge (by omega) (by omega)) (qx_edgeTarget ok pX hn (by omega) ?_)
    have ht := pg_te20 ok (k := k) hn
    refine pk_le (pg_sz P) (pg_te P n k) (fun h => nm_r (nI_1 k) (ih (k + 1) E (by omega) ?_)) (fun h => ?_)
    · intro m hm
      rw [pg_ps (by omega), if_neg (by omega), Nat.add_zero]; exact hE m hm
    · refine And.intro (vp_in_nI (by omega) (by omega)) (And.intro (vp_in_nI (by omega) (by omega)) (nm_e (nm_r (nI_1 k) (ih (k + 1) _ (by omega) ?_))))
      intro m hm
      rw [nI_clamp (by omega), pg_ps (by omega)]
      by_cases e : pg_te P n k = m
      · rw [if_pos e, e, pk_us, hE m hm, nI_1]
        exact congrArg nI (by omega)
      · rw [if_neg e, pk_un (fun z => e z.symm), Nat.add_zero]; exact hE m hm
theorem qx_ce30 {post : SX → Prop} (ok : pg_ok P) (pX : pg_X P a_code a_subject a_left a_right a_dest a_uses)
    (K : ∀ E', (∀ m, m < pg_sz P → E' m = nI (pg_en P m)) → post (f_opOut, f_opBranch, f_opJump, f_cap, f_vars, (nI (pg_sz P)), f_sealed, f_queued, f_workLen, a_code, a_subject, a_left, a_right, a_dest, a_uses, E', a_need, a_sched, a_schedLen, a_held, a_heldLen, a_reached, a_queue, a_work, a_picked, a_inputs, a_store, a_outs, a_outLen, a_counts)) :
    ∀ (d n : Nat) (E : Nat → Int32), n + d = pg_sz P → (∀ m, m < pg_sz P → E m = nI ((if m = 0 then 1 else 0) + pg_eS P m n)) →
    wX_countEntries_30 post f_opOut f_opBranch f_opJump f_cap f_vars (nI (pg_sz P)) f_sealed f_queued f_workLen (d + 1) (nI n) a_code a_subject a_left a_right a_dest a_uses E a_need a_sched a_schedLen a_held a_heldLen a_reached a_queue a_work a_picked a_inputs a_store a_outs a_outLen a_counts := by
  have h20 := pg_sz20 ok
  intro d
  induction d with
  | zero =>
    intro n E hn hE
    refine br_t (nI_le (by omega) (by omega)) (K E ?_)
    intro m hm
    unfold pg_en
    rw [← hn]; exact hE m hm
  | succ d ih =>
    intro n E hn hE
    refine br_f (nI_ge (by omega) (by omega)) (qx_edgeCount ok pX (by omega) ⟨pg_ec P n + 1, ?_⟩)
    refine qx_ce46 (c := fun m => (if m = 0 then 1 else 0) + pg_eS P m n) ok pX (by omega) ?_ ?_ (pg_ec P n) 0 E (by omega) ?_
    · intro m
      show (if m = 0 then 1 else 0) + pg_eS P m n ≤ 50
      have := pg_en40 (P := P) m n
      by_cases h : m = 0
      · rw [if_pos h]; omega
      · rw [if_neg h]; omega
    · intro E' hE'
      refine ih (n + 1) E' (by omega) ?_
      intro m hm
      rw [hE' m hm]
      exact congrArg nI (Nat.add_assoc _ _ _)
    · intro m hm
      rw [pg_p0, Nat.add_zero]; exact hE m hm
theorem qx_ce2 {post : SX → Prop} (ok : pg_ok P) (pX : pg_X P a_code a_subject a_left a_right a_dest a_uses)
    (K : ∀ E', (∀ m, m < pg_sz P → E' m = nI (pg_en P m)) → post (f_opOut, f_opBranch, f_opJump, f_cap, f_vars, (nI (pg_sz P)), f_sealed, f_queued, f_workLen, a_code, a_subject, a_left, a_right, a_dest, a_uses, E', a_need, a_sched, a_schedLen, a_held, a_heldLen, a_reached, a_queue, a_work, a_picked, a_inputs, a_store, a_outs, a_outLen, a_counts)) :
    ∀ (d i : Nat) (E : Nat → Int32), i + d = 20 → (∀ m, m < i → E m = 0) →
    wX_countEntries_2 post f_opOut f_opBranch f_opJump f_cap f_vars (nI (pg_sz P)) f_sealed f_queued f_workLen (d + 1) (nI i) a_code a_subject a_left a_right a_dest a_uses E a_need a_sched a_schedLen a_held a_heldLen a_reached a_queue a_work a_picked a_inputs a_store a_outs a_outLen a_counts := by
  have h20 := pg_sz20 ok
  intro d
  induction d with
  | zero =>
    intro i E hi hE
    refine br_t (nI_le (a := 20) (by omega) (by omega)) (nm_e ⟨pg_sz P + 1, qx_ce30 ok pX K (pg_sz P) 0 _ (by omega) ?_⟩)
    intro m hm
    by_cases h : m = 0
    · subst h; rw [pk_us, if_pos rfl]; rfl
    · rw [pk_un h, if_neg h]; exact hE m (by omega)
  | succ d ih =>
    intro i E hi hE
    refine br_f (nI_ge (b := 20) (by omega) (by omega)) (And.intro (vp_in_nI (by omega) (by omega)) (nm_e (nm_r (nI_1 i) (ih (i + 1) _ (by omega) ?_))))
    intro m hm
    rw [nI_clamp (by omega)]
    by_cases e : m = i
    · rw [e, pk_us]
    · rw [pk_un e]; exact hE m (by omega)
theorem qx_countEntries {post : SX → Prop} (ok : pg_ok P) (pX : pg_X P a_code a_subject a_left a_right a_dest a_uses)
    (K : ∀ E', (∀ m, m < pg_sz P → E' m = nI (pg_en P m)) → post (f_opOut, f_opBranch, f_opJump, f_cap, f_vars, (nI (pg_sz P)), f_sealed, f_queued, f_workLen, a_code, a_subject, a_left, a_right, a_dest, a_uses, E', a_need, a_sched, a_schedLen, a_held, a_heldLen, a_reached, a_queue, a_work, a_picked, a_inputs, a_store, a_outs, a_outLen, a_counts)) :
    wpX_countEntries post (f_opOut, f_opBranch, f_opJump, f_cap, f_vars, (nI (pg_sz P)), f_sealed, f_queued, f_workLen, a_code, a_subject, a_left, a_right, a_dest, a_uses, a_entryCount, a_need, a_sched, a_schedLen, a_held, a_heldLen, a_reached, a_queue, a_work, a_picked, a_inputs, a_store, a_outs, a_outLen, a_counts) :=
  ⟨21, qx_ce2 ok pX K 20 0 a_entryCount (by omega) (fun m hm => absurd hm (Nat.not_lt_zero m))⟩
/-! ===== needBefore ===== -/
def nd_F (nd : Nat → Int32) (n w : Nat) : Prop := bt (nd n) w = true
theorem qx_nb0 {post : Int32 → Prop} {n : Nat} {x2 x3 : Int32} {fu : Nat} {k : Int32} (ok : pg_ok P) (pX : pg_X P a_code a_subject a_left a_right a_dest a_uses) (hn : n < pg_sz P) (hk : x3 ≤ k)
    (hx : ∀ w, w < 32 → (bt x2 w = true ↔ nd_E P (nd_F a_need) n (pg_ec P n) w))
    (K : ∀ r, (∀ w, w < 32 → (bt r w = true ↔ nd_B P (nd_F a_need) n w)) → post r) :
    wX_needBefore_11 post (nI n) x3 f_opOut f_opBranch f_opJump f_cap f_vars (nI (pg_sz P)) f_sealed f_queued f_workLen a_code a_subject a_left a_right a_dest a_uses a_entryCount a_need a_sched a_schedLen a_held a_heldLen a_reached a_queue a_work a_picked a_inputs a_store a_outs a_outLen a_counts (fu + 1) x2 k := by
  have h20 := pg_sz20 ok
  have hc : a_code (nI n).toNatClampNeg = nI (pg_cd P n) := by rw [nI_clamp (by omega)]; exact (pX n hn).1
  have hs : a_subject (nI n).toNatClampNeg = nI (pg_nm P n) := by rw [nI_clamp (by omega)]; exact (pX n hn).2.1
  have h8 := pg_cd8 ok hn
  have h6 := pg_nm6 ok hn
  have hi : vp_in (nI n) 20 := vp_in_nI (by omega) (by omega)
  refine br_t hk (And.intro hi (pk_eq (pg_cd P n) 7 (fun h => K _ ?_) (fun h => And.intro hi (nm_r (congrArg (fun z => (1 : Int32) <<< (z &&& 31)) hs) (qx_isSet ok pX hn (fun h0 => br_f bb_10 ?_) (fun h0 => br_t rfl (K _ ?_))))) hc))
  · have h3 := (pg_cdk (k := 3) ok hn (by omega)).mp h
    intro w hw
    rw [hx w hw, nd_BE]
    constructor
    · intro e; exact Or.inr (Or.inl ⟨by rw [h3]; rintro ⟨z, _⟩; exact absurd z (by decide), e⟩)
    · rintro (u | ⟨_, e⟩ | ⟨r, _⟩)
      · rcases u.1 with z | z <;> rw [h3] at z <;> exact absurd z (by decide)
      · exact e
      · have z := r.2.1; rw [h3] at z; exact absurd z (by decide)
  · refine br_c (fun hb => K _ ?_) (fun hb => And.intro hi (K _ ?_))
    · rw [bb_ab0 (by omega)] at hb
      have hb' : ¬ nd_E P (nd_F a_need) n (pg_ec P n) (pg_nm P n) := fun z => by rw [(hx _ (by omega)).mpr z] at hb; exact absurd hb (by decide)
      intro w hw
      rw [hx w hw, nd_BE]
      constructor
      · intro e; exact Or.inr (Or.inl ⟨by rintro ⟨_, z⟩; rw [z] at hb'; exact hb' e, e⟩)
      · rintro (u | ⟨_, e⟩ | ⟨_, e⟩)
        · rcases u.1 with z | z <;> rw [h0] at z <;> exact absurd z (by decide)
        · exact e
        · exact absurd e hb'
    · rw [bb_ab0 (by omega)] at hb
      have hb' : nd_E P (nd_F a_need) n (pg_ec P n) (pg_nm P n) := (hx _ (by omega)).mp (by cases h : bt x2 (pg_nm P n); exact absurd h hb; rfl)
      have hu := ((pX n hn).2.2.2 h0).2.2
      intro w hw
      rw [nI_clamp (by omega), nd_BE, b_or, Bool.or_eq_true, hu w hw, b_and, Bool.and_eq_true, bb_not hw, bb_bit (by omega) hw, hx w hw]
      constructor
      · rintro (⟨e, z⟩ | r)
        · refine Or.inr (Or.inl ⟨?_, e⟩)
          rintro ⟨_, q⟩
          rw [q, decide_eq_true rfl] at z
          exact absurd z (by decide)
        · exact Or.inr (Or.inr ⟨r, hb'⟩)
      · rintro (u | ⟨q, e⟩ | ⟨r, _⟩)
        · rcases u.1 with z | z <;> rw [h0] at z <;> exact absurd z (by decide)
        · refine Or.inl ⟨e, ?_⟩
          rw [decide_eq_false (fun z => q ⟨h0, z.symm⟩)]; rfl
        · exact Or.inr r
  · have h12 : pg_kd P n = 1 ∨ pg_kd P n = 2 := by
      have := pg_kd4 ok hn
      have h3 : pg_kd P n ≠ 3 := fun z => h ((pg_cdk (k := 3) ok hn (by omega)).mpr z)
      omega
    intro w hw
    rw [nd_BE, b_or, Bool.or_eq_true, hx w hw, bb_bit (by omega) hw]
    constructor
    · rintro (e | z)
      · exact Or.inr (Or.inl ⟨fun z => h0 z.1, e⟩)
      · exact Or.inl ⟨h12, (of_decide_eq_true z).symm⟩
    · rintro (u | ⟨_, e⟩ | ⟨r, _⟩)
      · exact Or.inr (decide_eq_true u.2.symm)
      · exact Or.inl e
      · exact absurd r.2.1 h0
theorem qx_nb11 {post : Int32 → Prop} {n : Nat} (ok : pg_ok P) (pX : pg_X P a_code a_subject a_left a_right a_dest a_uses) (hn : n < pg_sz P)
    (K : ∀ r, (∀ w, w < 32 → (bt r w = true ↔ nd_B P (nd_F a_need) n w)) → post r) :
    ∀ (d k : Nat) (x2 : Int32), k + d = pg_ec P n → (∀ w, w < 32 → (bt x2 w = true ↔ nd_E P (nd_F a_need) n k w)) →
    wX_needBefore_11 post (nI n) (nI (pg_ec P n)) f_opOut f_opBranch f_opJump f_cap f_vars (nI (pg_sz P)) f_sealed f_queued f_workLen a_code a_subject a_left a_right a_dest a_uses a_entryCount a_need a_sched a_schedLen a_held a_heldLen a_reached a_queue a_work a_picked a_inputs a_store a_outs a_outLen a_counts (d + 1) x2 (nI k) := by
  have h20 := pg_sz20 ok
  have hec := pg_ec12 (P := P) n
  intro d
  induction d with
  | zero =>
    intro k x2 hk hx
    have e : k = pg_ec P n := by omega
    rw [e] at hx
    exact qx_nb0 ok pX hn (nI_le (by omega) (by omega)) hx K
  | succ d ih =>
    intro k x2 hk hx
    refine br_f (nI_ge (by omega) (by omega)) (qx_edgeTarget ok pX hn (by omega) ?_)
    have ht := pg_te20 ok (k := k) hn
    refine pk_le (pg_sz P) (pg_te P n k) (fun h => nm_r (nI_1 k) (ih (k + 1) x2 (by omega) ?_)) (fun h => ?_)
    · intro w hw
      rw [hx w hw]
      constructor
      · rintro ⟨k', a, b⟩; exact ⟨k', by omega, b⟩
      · rintro ⟨k', a, b, c⟩
        refine ⟨k', ?_, b, c⟩
        rcases Nat.lt_or_ge k' k with z | z
        · exact z
        · rw [show k' = k by omega] at b; omega
    · refine And.intro (vp_in_nI (by omega) (by omega)) (nm_e (nm_r (nI_1 k) (ih (k + 1) _ (by omega) ?_)))
      intro w hw
      rw [nI_clamp (by omega), b_or, Bool.or_eq_true, hx w hw]
      constructor
      · rintro (⟨k', a, b⟩ | f)
        · exact ⟨k', by omega, b⟩
        · exact ⟨k, by omega, h, f⟩
      · rintro ⟨k', a, b, c⟩
        rcases Nat.lt_or_ge k' k with z | z
        · exact Or.inl ⟨k', z, b, c⟩
        · rw [show k' = k by omega] at c; exact Or.inr c
theorem qx_needBefore {post : Int32 → Prop} {n : Nat} (ok : pg_ok P) (pX : pg_X P a_code a_subject a_left a_right a_dest a_uses) (hn : n < pg_sz P)
    (K : ∀ r, (∀ w, w < 32 → (bt r w = true ↔ nd_B P (nd_F a_need) n w)) → post r) :
    wpX_needBefore post (f_opOut, f_opBranch, f_opJump, f_cap, f_vars, (nI (pg_sz P)), f_sealed, f_queued, f_workLen, a_code, a_subject, a_left, a_right, a_dest, a_uses, a_entryCount, a_need, a_sched, a_schedLen, a_held, a_heldLen, a_reached, a_queue, a_work, a_picked, a_inputs, a_store, a_outs, a_outLen, a_counts) (nI n) := by
  unfold wpX_needBefore
  refine qx_edgeCount ok pX hn ⟨pg_ec P n + 1, qx_nb11 ok pX hn K (pg_ec P n) 0 0 (by omega) ?_⟩
  intro w hw
  rw [b_0]
  constructor
  · intro z; exact absurd z (by decide)
  · rintro ⟨k, a, _⟩; exact absurd a (Nat.not_lt_zero k)
/-! ===== findNeeded ===== -/
def nd_I (P : pg_T) (nd : Nat → Int32) : Prop := (∀ n w, n < pg_sz P → w < 32 → nd_F nd n w → nd_N P n w) ∧ ∀ n w, n < pg_sz P → w < 32 → nd_F nd n w → nd_B P (nd_F nd) n w
def nd_C (P : pg_T) (nd : Nat → Int32) (n : Nat) : Prop := ∀ w, w < 32 → nd_B P (nd_F nd) n w → nd_F nd n w
def nd_c (nd : Nat → Int32) : Nat := cn_n (fun i => bt (nd (i / 6)) (i % 6)) 120
theorem nd_up {nd : Nat → Int32} {n : Nat} {r : Int32} (ok : pg_ok P) (hI : nd_I P nd) (hn : n < pg_sz P) (hr : ∀ w, w < 32 → (bt r w = true ↔ nd_B P (nd_F nd) n w)) (hne : ¬ r = nd n) : nd_I P (upd nd n r) ∧ nd_c nd < nd_c (upd nd n r) := by
  have h20 := pg_sz20 ok
  have hm : ∀ n' w', n' < pg_sz P → w' < 32 → nd_F nd n' w' → nd_F (upd nd n r) n' w' := by
    intro n' w' hn' hw' f
    unfold nd_F
    by_cases e : n' = n
    · subst e; rw [pk_us]; exact (hr w' hw').mpr (hI.2 n' w' hn hw' f)
    · rw [pk_un e]; exact f
  have hN : ∀ w, w < 32 → bt r w = true → nd_N P n w := fun w hw h => nd_BN ok hn hw hI.1 ((hr w hw).mp h)
  refine ⟨⟨?_, ?_⟩, ?_⟩
  · intro n' w hn' hw f
    unfold nd_F at f
    by_cases e : n' = n
    · subst e; rw [pk_us] at f; exact hN w hw f
    · rw [pk_un e] at f; exact hI.1 n' w hn' hw f
  · intro n' w hn' hw f
    refine nd_Bm ok hn' hw hm ?_
    unfold nd_F at f
    by_cases e : n' = n
    · subst e; rw [pk_us] at f; exact (hr w hw).mp f
    · rw [pk_un e] at f; exact hI.2 n' w hn' hw f
  · have hx : ∃ w, w < 32 ∧ bt (nd n) w = false ∧ bt r w = true := by
      apply Classical.byContradiction
      intro hno
      apply hne
      apply b_ext
      intro w hw
      cases h1 : bt r w
      · cases h2 : bt (nd n) w
        · rfl
        · have := (hr w hw).mpr (hI.2 n w hn hw h2)
          rw [h1] at this; exact absurd this (by decide)
      · cases h2 : bt (nd n) w
        · exact absurd ⟨w, hw, h2, h1⟩ hno
        · rfl
    obtain ⟨w, hw, h1, h2⟩ := hx
    have hv := nd_v ok (hN w hw h2)
    have h6 := pg_vs6 ok
    have e1 : (n * 6 + w) / 6 = n := by omega
    have e2 : (n * 6 + w) % 6 = w := by omega
    refine cn_lt (x := n * 6 + w) ?_ ?_ 120 (by omega) ?_
    · show bt (nd ((n * 6 + w) / 6)) ((n * 6 + w) % 6) = false
      rw [e1, e2]; exact h1
    · show bt (upd nd n r ((n * 6 + w) / 6)) ((n * 6 + w) % 6) = true
      rw [e1, e2, pk_us]; exact h2
    · intro i hi f
      show bt (upd nd n r (i / 6)) (i % 6) = true
      by_cases e : i / 6 = n
      · rw [e, pk_us]
        refine (hr _ (by omega)).mpr (hI.2 n _ hn (by omega) ?_)
        rw [← e]; exact f
      · rw [pk_un e]; exact f
theorem qx_fn44 {post : SX → Prop} {x2 : Int32} {J25 : Int32 → Int32 → (Nat → Int32) → (Nat → Int32) → (Nat → Int32) → (Nat → Int32) → (Nat → Int32) → (Nat → Int32) → (Nat → Int32) → (Nat → Int32) → (Nat → Int32) → (Nat → Int32) → (Nat → Int32) → (Nat → Int32) → (Nat → Int32) → (Nat → Int32) → (Nat → Int32) → (Nat → Int32) → (Nat → Int32) → (Nat → Int32) → (Nat → Int32) → (Nat → Int32) → (Nat → Int32) →  Prop} (ok : pg_ok P) (pX : pg_X P a_code a_subject a_left a_right a_dest a_uses) :
    ∀ (j : Nat) (c : Int32) (nd : Nat → Int32), j ≤ pg_sz P → nd_I P nd → (c = 0 ∨ c = 1) → (c = 0 → ∀ n, j ≤ n → n < pg_sz P → nd_C P nd n) →
    (∀ c' nd', nd_I P nd' → (c' = 0 ∨ c' = 1) → (c' = 0 → ∀ n, n < pg_sz P → nd_C P nd' n) → nd_c nd ≤ nd_c nd' → (c' = 1 → c = 1 ∨ nd_c nd < nd_c nd') → J25 c' (x2 + 1) a_code a_subject a_left a_right a_dest a_uses a_entryCount nd' a_sched a_schedLen a_held a_heldLen a_reached a_queue a_work a_picked a_inputs a_store a_outs a_outLen a_counts) →
    wX_findNeeded_44 post J25 x2 f_opOut f_opBranch f_opJump f_cap f_vars (nI (pg_sz P)) f_sealed f_queued f_workLen (j + 1) c (nI j + (-1)) a_code a_subject a_left a_right a_dest a_uses a_entryCount nd a_sched a_schedLen a_held a_heldLen a_reached a_queue a_work a_picked a_inputs a_store a_outs a_outLen a_counts := by
  have h20 := pg_sz20 ok
  intro j
  induction j with
  | zero =>
    intro c nd _ hI hc hC K
    exact br_t nb_neg (nm_e (K c nd hI hc (fun z n hn => hC z n (Nat.zero_le n) hn) (Nat.le_refl _) (fun z => Or.inl z)))
  | succ j ih =>
    intro c nd hj hI hc hC K
    rw [pk_m1]
    refine br_f (nI_pos (by omega)) (qx_needBefore ok pX (by omega) (fun r hr => And.intro (vp_in_nI (by omega) (by omega)) ?_))
    rw [nI_clamp (by omega)]
    refine br_c (fun e => nm_e (ih c nd (by omega) hI hc ?_ K)) (fun e => And.intro (vp_in_nI (by omega) (by omega)) (nm_e (nm_e (ih 1 _ (by omega) (nd_up ok hI (by omega) hr e).1 (Or.inr rfl) (fun z => absurd z bb_10) ?_))))
    · intro z n hn hs
      by_cases en : n = j
      · subst en
        intro w hw b
        unfold nd_F
        rw [← e]; exact (hr w hw).mpr b
      · exact hC z n (by omega) hs
    · intro c' nd' hI' hc' hC' hle _
      have hlt := (nd_up ok hI (by omega) hr e).2
      exact K c' nd' hI' hc' hC' (by omega) (fun _ => Or.inr (by omega))
theorem qx_fn25 {post : SX → Prop} (ok : pg_ok P) (pX : pg_X P a_code a_subject a_left a_right a_dest a_uses)
    (K : ∀ nd, nd_I P nd → (∀ n, n < pg_sz P → nd_C P nd n) → post (f_opOut, f_opBranch, f_opJump, f_cap, f_vars, (nI (pg_sz P)), f_sealed, f_queued, f_workLen, a_code, a_subject, a_left, a_right, a_dest, a_uses, a_entryCount, nd, a_sched, a_schedLen, a_held, a_heldLen, a_reached, a_queue, a_work, a_picked, a_inputs, a_store, a_outs, a_outLen, a_counts)) :
    ∀ (d r : Nat) (c : Int32) (nd : Nat → Int32), r + d = 121 → nd_I P nd → (c = 0 ∨ c = 1) → (c = 0 → ∀ n, n < pg_sz P → nd_C P nd n) → (c = 1 → r ≤ nd_c nd) →
    wX_findNeeded_25 post f_opOut f_opBranch f_opJump f_cap f_vars (nI (pg_sz P)) f_sealed f_queued f_workLen (d + 1) c (nI r) a_code a_subject a_left a_right a_dest a_uses a_entryCount nd a_sched a_schedLen a_held a_heldLen a_reached a_queue a_work a_picked a_inputs a_store a_outs a_outLen a_counts := by
  have h20 := pg_sz20 ok
  intro d
  induction d with
  | zero =>
    intro r c nd hr hI hc hC hn
    have h := cn_le (fun i => bt (nd (i / 6)) (i % 6)) 120
    refine br_t (nI_lt (a := 120) (by omega) (by omega)) (K nd hI (hC ?_))
    rcases hc with z | z
    · exact z
    · have h2 := hn z
      unfold nd_c at h2
      omega
  | succ d ih =>
    intro r c nd hr hI hc hC hn
    refine br_f (nI_nlt (b := r) (a := 120) (by omega) (by omega)) (br_c (fun z => K nd hI (hC z)) (fun z => nm_r (nb_s1 _) ⟨pg_sz P + 1, qx_fn44 ok pX (pg_sz P) 0 nd (Nat.le_refl _) hI (Or.inl rfl) (fun _ n h1 h2 => by omega) ?_⟩))
    intro c' nd' hI' hc' hC' hle hlt
    rw [nI_1]
    refine ih (r + 1) c' nd' (by omega) hI' hc' hC' (fun e => ?_)
    have hc1 : c = 1 := by rcases hc with y | y; exact absurd y z; exact y
    have h1 := hn hc1
    rcases hlt e with y | y
    · exact absurd y (by decide)
    · omega
theorem qx_fn2 {post : SX → Prop} (ok : pg_ok P) (pX : pg_X P a_code a_subject a_left a_right a_dest a_uses)
    (K : ∀ nd, (∀ n w, n < pg_sz P → w < 32 → (bt (nd n) w = true ↔ nd_N P n w)) → post (f_opOut, f_opBranch, f_opJump, f_cap, f_vars, (nI (pg_sz P)), f_sealed, f_queued, f_workLen, a_code, a_subject, a_left, a_right, a_dest, a_uses, a_entryCount, nd, a_sched, a_schedLen, a_held, a_heldLen, a_reached, a_queue, a_work, a_picked, a_inputs, a_store, a_outs, a_outLen, a_counts)) :
    ∀ (d i : Nat) (nd : Nat → Int32), i + d = 20 → (∀ m, m < i → nd m = 0) →
    wX_findNeeded_2 post f_opOut f_opBranch f_opJump f_cap f_vars (nI (pg_sz P)) f_sealed f_queued f_workLen (d + 1) (nI i) a_code a_subject a_left a_right a_dest a_uses a_entryCount nd a_sched a_schedLen a_held a_heldLen a_reached a_queue a_work a_picked a_inputs a_store a_outs a_outLen a_counts := by
  have h20 := pg_sz20 ok
  intro d
  induction d with
  | zero =>
    intro i nd hi hz
    have hz' : ∀ n w, n < pg_sz P → ¬ nd_F nd n w := by
      intro n w hn f
      unfold nd_F at f
      rw [hz n (by omega), b_0] at f
      exact absurd f (by decide)
    refine br_t (nI_le (a := 20) (by omega) (by omega)) ⟨122, qx_fn25 ok pX (fun nd' hI hC => K nd' ?_) 121 0 1 nd (by omega) ⟨fun n w hn _ f => absurd f (hz' n w hn), fun n w hn _ f => absurd f (hz' n w hn)⟩ (Or.inr rfl) (fun z => absurd z bb_10) (fun _ => Nat.zero_le _)⟩
    intro n w hn hw
    constructor
    · exact hI.1 n w hn hw
    · intro h
      exact nd_cl (F := fun n w => n < pg_sz P → nd_F nd' n w) ok (fun n w hn hw b _ => hC n hn w hw (nd_Bm ok hn hw (fun n' w' a _ f => f a) b)) h hn
  | succ d ih =>
    intro i nd hi hz
    refine br_f (nI_ge (b := 20) (by omega) (by omega)) (And.intro (vp_in_nI (by omega) (by omega)) (nm_e (nm_r (nI_1 i) (ih (i + 1) _ (by omega) ?_))))
    intro m hm
    rw [nI_clamp (by omega)]
    by_cases e : m = i
    · rw [e, pk_us]
    · rw [pk_un e]; exact hz m (by omega)
theorem qx_findNeeded {post : SX → Prop} (ok : pg_ok P) (pX : pg_X P a_code a_subject a_left a_right a_dest a_uses)
    (K : ∀ nd, (∀ n w, n < pg_sz P → w < 32 → (bt (nd n) w = true ↔ nd_N P n w)) → post (f_opOut, f_opBranch, f_opJump, f_cap, f_vars, (nI (pg_sz P)), f_sealed, f_queued, f_workLen, a_code, a_subject, a_left, a_right, a_dest, a_uses, a_entryCount, nd, a_sched, a_schedLen, a_held, a_heldLen, a_reached, a_queue, a_work, a_picked, a_inputs, a_store, a_outs, a_outLen, a_counts)) :
    wpX_findNeeded post (f_opOut, f_opBranch, f_opJump, f_cap, f_vars, (nI (pg_sz P)), f_sealed, f_queued, f_workLen, a_code, a_subject, a_left, a_right, a_dest, a_uses, a_entryCount, a_need, a_sched, a_schedLen, a_held, a_heldLen, a_reached, a_queue, a_work, a_picked, a_inputs, a_store, a_outs, a_outLen, a_counts) :=
  ⟨21, qx_fn2 ok pX K 20 0 a_need (by omega) (fun m hm => absurd hm (Nat.not_lt_zero m))⟩
end
end
section
section
variable {P : pg_T} {g : Nat → Nat} {len : Nat} {L : Nat → Bool}
theorem sq_svt {j d w : Nat} (e : len - 1 - d = j) (h : sq_sv P g len L d (pg_nm P (g j)) = true) : sq_sv P g len L (d + 1) w = (cq_ (pg_rd P (g j) w) || (sq_sv P g len L d w && !decide (w = pg_nm P (g j)))) := by
  subst e; exact if_pos h
theorem sq_svf {j d w : Nat} (e : len - 1 - d = j) (h : sq_sv P g len L d (pg_nm P (g j)) = false) : sq_sv P g len L (d + 1) w = sq_sv P g len L d w := by
  subst e; exact if_neg (by rw [h]; decide)
theorem sq_pfj {v j d : Nat} (e : len - 1 - d = j) : sq_pf P g len v (d + 1) j = cq_ (pg_nm P (g j) = v ∨ ∃ i, i < len ∧ sq_pf P g len v d i = true ∧ sq_cl P (g j) (g i)) := by
  subst e; exact if_pos rfl
theorem sq_pfo {v j d i : Nat} (e : len - 1 - d = j) (h : i ≠ j) : sq_pf P g len v (d + 1) i = sq_pf P g len v d i := by
  subst e; exact if_neg h
theorem sq_pfz {v i : Nat} : ∀ d, d ≤ len → sq_pf P g len v d i = true → len - d ≤ i := by
  intro d
  induction d with
  | zero => intro _ h; exact absurd h (by show ¬ false = true; decide)
  | succ d ih =>
    intro hd h
    by_cases e : i = len - 1 - d
    · omega
    · rw [sq_pfo rfl e] at h
      have := ih (by omega) h
      omega
theorem sq_pfE {v j d : Nat} {Q : Nat → Prop} (hd : d < len) (e : len - 1 - d = j) : (∃ i, i < len ∧ sq_pf P g len v (d + 1) i = true ∧ Q i) ↔ (sq_pf P g len v (d + 1) j = true ∧ Q j) ∨ ∃ i, i < len ∧ sq_pf P g len v d i = true ∧ Q i := by
  constructor
  · rintro ⟨i, hi, h, q⟩
    by_cases z : i = j
    · subst z; exact Or.inl ⟨h, q⟩
    · rw [sq_pfo e z] at h; exact Or.inr ⟨i, hi, h, q⟩
  · rintro (⟨h, q⟩ | ⟨i, hi, h, q⟩)
    · exact ⟨j, by omega, h, q⟩
    · refine ⟨i, hi, ?_, q⟩
      have := sq_pfz d (by omega) h
      rw [sq_pfo e (by omega)]; exact h
end
section
variable {f_opOut f_opBranch f_opJump f_cap f_vars f_size f_sealed f_queued f_workLen : Int32} {a_code a_subject a_left a_right a_dest a_uses a_entryCount a_need a_sched a_schedLen a_held a_heldLen a_reached a_queue a_work a_picked a_inputs a_store a_outs a_outLen a_counts : Nat → Int32}
variable {P : pg_T}
/-! ===== held lists ===== -/
theorem qx_lh12 {post : SX → Prop} {n : Nat} {l : List Nat} (hn : n < 20) (hl : l.length ≤ 20) (hr : sq_R a_held (n * 20) l)
    (K : ∀ w', sq_R w' 0 l → post (f_opOut, f_opBranch, f_opJump, f_cap, f_vars, f_size, f_sealed, f_queued, (nI l.length), a_code, a_subject, a_left, a_right, a_dest, a_uses, a_entryCount, a_need, a_sched, a_schedLen, a_held, a_heldLen, a_reached, a_queue, w', a_picked, a_inputs, a_store, a_outs, a_outLen, a_counts)) :
    ∀ (d i : Nat) (w : Nat → Int32), i + d = l.length → (∀ j, j < i → w j = nI (l.getD j 0)) →
    wX_loadHeld_12 post (nI n) f_opOut f_opBranch f_opJump f_cap f_vars f_size f_sealed f_queued (nI l.length) (d + 1) (nI i) a_code a_subject a_left a_right a_dest a_uses a_entryCount a_need a_sched a_schedLen a_held a_heldLen a_reached a_queue w a_picked a_inputs a_store a_outs a_outLen a_counts := by
  intro d
  induction d with
  | zero =>
    intro i w hi hw
    refine br_t (nI_le (by omega) (by omega)) (K w ?_)
    intro j hj
    rw [Nat.zero_add]; exact hw j (by omega)
  | succ d ih =>
    intro i w hi hw
    refine br_f (nI_ge (by omega) (by omega)) ?_
    rw [nb_m20]
    refine And.intro (vp_in_nI (by omega) (by omega)) (And.intro (vp_in_nI (by omega) (by omega)) (nm_e (nm_r (nI_1 i) (ih (i + 1) _ (by omega) ?_))))
    intro j hj
    rw [nI_clamp (by omega), nI_clamp (by omega)]
    by_cases e : j = i
    · rw [e, pk_us]; exact hr i (by omega)
    · rw [pk_un e]; exact hw j (by omega)
theorem qx_loadHeld {post : SX → Prop} {n : Nat} {l : List Nat} (hn : n < 20) (hB : sq_B a_held a_heldLen n l)
    (K : ∀ w', sq_R w' 0 l → post (f_opOut, f_opBranch, f_opJump, f_cap, f_vars, f_size, f_sealed, f_queued, (nI l.length), a_code, a_subject, a_left, a_right, a_dest, a_uses, a_entryCount, a_need, a_sched, a_schedLen, a_held, a_heldLen, a_reached, a_queue, w', a_picked, a_inputs, a_store, a_outs, a_outLen, a_counts)) : wpX_loadHeld post (f_opOut, f_opBranch, f_opJump, f_cap, f_vars, f_size, f_sealed, f_queued, f_workLen, a_code, a_subject, a_left, a_right, a_dest, a_uses, a_entryCount, a_need, a_sched, a_schedLen, a_held, a_heldLen, a_reached, a_queue, a_work, a_picked, a_inputs, a_store, a_outs, a_outLen, a_counts) (nI n) := by
  refine And.intro (vp_in_nI hn (by omega)) (nm_r (e' := nI l.length) ?_ ⟨l.length + 1, qx_lh12 hn hB.2.2 hB.2.1 K l.length 0 a_work (by omega) (fun j hj => absurd hj (Nat.not_lt_zero j))⟩)
  rw [nI_clamp (by omega)]; exact hB.1
theorem qx_sh12 {post : SX → Prop} {n : Nat} {l : List Nat} {h0 : Nat → Int32} (hn : n < 20) (hl : l.length ≤ 20) (hw : sq_R a_work 0 l)
    (K : ∀ h', sq_R h' (n * 20) l → (∀ j, (j < n * 20 ∨ n * 20 + 20 ≤ j) → h' j = h0 j) → post (f_opOut, f_opBranch, f_opJump, f_cap, f_vars, f_size, f_sealed, f_queued, (nI l.length), a_code, a_subject, a_left, a_right, a_dest, a_uses, a_entryCount, a_need, a_sched, a_schedLen, h', a_heldLen, a_reached, a_queue, a_work, a_picked, a_inputs, a_store, a_outs, a_outLen, a_counts)) :
    ∀ (d i : Nat) (h : Nat → Int32), i + d = l.length → (∀ j, j < i → h (n * 20 + j) = nI (l.getD j 0)) → (∀ j, (j < n * 20 ∨ n * 20 + 20 ≤ j) → h j = h0 j) →
    wX_saveHeld_12 post (nI n) f_opOut f_opBranch f_opJump f_cap f_vars f_size f_sealed f_queued (nI l.length) (d + 1) (nI i) a_code a_subject a_left a_right a_dest a_uses a_entryCount a_need a_sched a_schedLen h a_heldLen a_reached a_queue a_work a_picked a_inputs a_store a_outs a_outLen a_counts := by
  intro d
  induction d with
  | zero =>
    intro i h hi hh ho
    exact br_t (nI_le (by omega) (by omega)) (K h (fun j hj => hh j (by omega)) ho)
  | succ d ih =>
    intro i h hi hh ho
    refine br_f (nI_ge (by omega) (by omega)) ?_
    rw [nb_m20]
    refine And.intro (vp_in_nI (by omega) (by omega)) (And.intro (vp_in_nI (by omega) (by omega)) (nm_e (nm_r (nI_1 i) (ih (i + 1) _ (by omega) ?_ ?_))))
    · intro j hj
      rw [nI_clamp (by omega), nI_clamp (by omega)]
      by_cases e : j = i
      · rw [e, pk_us]
        have := hw i (by omega)
        rw [Nat.zero_add] at this; exact this
      · rw [pk_un (by omega)]; exact hh j (by omega)
    · intro j hj
      rw [nI_clamp (by omega), pk_un (by omega)]; exact ho j hj
theorem qx_saveHeld {post : SX → Prop} {n : Nat} {l : List Nat} (hn : n < 20) (hl : l.length ≤ 20) (hw : sq_R a_work 0 l)
    (K : ∀ h' z', sq_B h' z' n l → sq_O a_held a_heldLen h' z' n → post (f_opOut, f_opBranch, f_opJump, f_cap, f_vars, f_size, f_sealed, f_queued, (nI l.length), a_code, a_subject, a_left, a_right, a_dest, a_uses, a_entryCount, a_need, a_sched, a_schedLen, h', z', a_reached, a_queue, a_work, a_picked, a_inputs, a_store, a_outs, a_outLen, a_counts)) : wpX_saveHeld post (f_opOut, f_opBranch, f_opJump, f_cap, f_vars, f_size, f_sealed, f_queued, (nI l.length), a_code, a_subject, a_left, a_right, a_dest, a_uses, a_entryCount, a_need, a_sched, a_schedLen, a_held, a_heldLen, a_reached, a_queue, a_work, a_picked, a_inputs, a_store, a_outs, a_outLen, a_counts) (nI n) := by
  refine And.intro (vp_in_nI hn (by omega)) (nm_r (e' := upd a_heldLen n (nI l.length)) ?_ ⟨l.length + 1, qx_sh12 (h0 := a_held) hn hl hw (fun h' h1 h2 => K h' _ ⟨pk_us, h1, hl⟩ ⟨fun c hc => pk_un hc, h2⟩) l.length 0 a_held (by omega) (fun j hj => absurd hj (Nat.not_lt_zero j)) (fun _ _ => rfl)⟩)
  rw [nI_clamp (by omega)]
/-! ===== compaction ===== -/
theorem qx_rp4 {post : SX → Prop} {g : Nat → Nat} {F : Nat → Bool} {len : Nat} (hl : len ≤ 20) (hp : sq_F a_picked F 0 len)
    (K : ∀ w', sq_R w' 0 (sq_k g F len) → post (f_opOut, f_opBranch, f_opJump, f_cap, f_vars, f_size, f_sealed, f_queued, (nI (sq_k g F len).length), a_code, a_subject, a_left, a_right, a_dest, a_uses, a_entryCount, a_need, a_sched, a_schedLen, a_held, a_heldLen, a_reached, a_queue, w', a_picked, a_inputs, a_store, a_outs, a_outLen, a_counts)) :
    ∀ (d i : Nat) (w : Nat → Int32), i + d = len → sq_R w 0 (sq_k g F i) → (∀ j, i ≤ j → j < len → w j = nI (g j)) →
    wX_removePicked_4 post f_opOut f_opBranch f_opJump f_cap f_vars f_size f_sealed f_queued (nI len) (d + 1) (nI (sq_k g F i).length) (nI i) a_code a_subject a_left a_right a_dest a_uses a_entryCount a_need a_sched a_schedLen a_held a_heldLen a_reached a_queue w a_picked a_inputs a_store a_outs a_outLen a_counts := by
  intro d
  induction d with
  | zero =>
    intro i w hi hR hw
    have e : i = len := by omega
    subst e
    exact br_t (nI_le (by omega) (by omega)) (K w hR)
  | succ d ih =>
    intro i w hi hR hw
    have hk := sq_kl (g := g) (F := F) i
    have hpi : a_picked (nI i).toNatClampNeg = nb_b (F i) := by rw [nI_clamp (by omega)]; exact hp i (by omega) (by omega)
    refine br_f (nI_ge (by omega) (by omega)) (And.intro (vp_in_nI (by omega) (by omega)) ?_)
    rw [hpi]
    cases hF : F i
    · refine br_t rfl (And.intro (vp_in_nI (by omega) (by omega)) (And.intro (vp_in_nI (by omega) (by omega)) (nm_e (nm_r (nI_1 _) (nm_r (nI_1 i) ?_)))))
      rw [nI_clamp (by omega), nI_clamp (by omega)]
      have e : (sq_k g F i).length + 1 = (sq_k g F (i + 1)).length := by rw [sq_kf hF, sq_len]
      rw [e]
      refine ih (i + 1) _ (by omega) ?_ ?_
      · rw [sq_kf hF]
        refine sq_Ra ?_ ?_
        · intro j hj
          rw [pk_un (by omega)]; exact hR j hj
        · rw [Nat.zero_add, pk_us]; exact hw i (by omega) (by omega)
      · intro j h1 h2
        rw [pk_un (by omega)]; exact hw j (by omega) h2
    · refine br_f bb_10 (nm_r (nI_1 i) ?_)
      have e : (sq_k g F i) = (sq_k g F (i + 1)) := by rw [sq_kt hF]
      rw [e]
      refine ih (i + 1) _ (by omega) ?_ ?_
      · rw [sq_kt hF]; exact hR
      · intro j h1 h2
        exact hw j (by omega) h2
theorem qx_removePicked {post : SX → Prop} {g : Nat → Nat} {F : Nat → Bool} {len : Nat} (hl : len ≤ 20) (hp : sq_F a_picked F 0 len) (hw : ∀ j, j < len → a_work j = nI (g j))
    (K : ∀ w', sq_R w' 0 (sq_k g F len) → post (f_opOut, f_opBranch, f_opJump, f_cap, f_vars, f_size, f_sealed, f_queued, (nI (sq_k g F len).length), a_code, a_subject, a_left, a_right, a_dest, a_uses, a_entryCount, a_need, a_sched, a_schedLen, a_held, a_heldLen, a_reached, a_queue, w', a_picked, a_inputs, a_store, a_outs, a_outLen, a_counts)) : wpX_removePicked post (f_opOut, f_opBranch, f_opJump, f_cap, f_vars, f_size, f_sealed, f_queued, (nI len), a_code, a_subject, a_left, a_right, a_dest, a_uses, a_entryCount, a_need, a_sched, a_schedLen, a_held, a_heldLen, a_reached, a_queue, a_work, a_picked, a_inputs, a_store, a_outs, a_outLen, a_counts) :=
  ⟨len + 1, qx_rp4 hl hp K len 0 a_work (by omega) sq_Rn (fun j _ h => hw j h)⟩
/-! ===== sift ===== -/
theorem qx_sift14 {post : SX → Prop} {l : List Nat} {L : Nat → Bool} (ok : pg_ok P) (pX : pg_X P a_code a_subject a_left a_right a_dest a_uses) (hV : sq_V P l) (hl : l.length ≤ 20) (hw : sq_R a_work 0 l)
    (K : ∀ w' p', sq_R w' 0 (sq_k (sq_a l) (sq_sf P (sq_a l) l.length L) l.length) → post (f_opOut, f_opBranch, f_opJump, f_cap, f_vars, f_size, f_sealed, f_queued, (nI (sq_k (sq_a l) (sq_sf P (sq_a l) l.length L) l.length).length), a_code, a_subject, a_left, a_right, a_dest, a_uses, a_entryCount, a_need, a_sched, a_schedLen, a_held, a_heldLen, a_reached, a_queue, w', p', a_inputs, a_store, a_outs, a_outLen, a_counts)) :
    ∀ (j d : Nat) (x2 : Int32) (p : Nat → Int32), j + d = l.length → (∀ w, w < 32 → bt x2 w = sq_sv P (sq_a l) l.length L d w) → sq_F p (sq_sf P (sq_a l) l.length L) j l.length →
    wX_sift_14 post f_opOut f_opBranch f_opJump f_cap f_vars f_size f_sealed f_queued (nI l.length) (j + 1) x2 (nI j + (-1)) a_code a_subject a_left a_right a_dest a_uses a_entryCount a_need a_sched a_schedLen a_held a_heldLen a_reached a_queue a_work p a_inputs a_store a_outs a_outLen a_counts := by
  have h20 := pg_sz20 ok
  have hw' : ∀ j, j < l.length → a_work j = nI (sq_a l j) := by
    intro j hj
    have := hw j hj
    rw [Nat.zero_add] at this; exact this
  intro j
  induction j with
  | zero =>
    intro d x2 p hd hx hp
    exact br_t nb_neg (qx_removePicked (g := sq_a l) (F := sq_sf P (sq_a l) l.length L) hl hp hw' (fun w' hR => K w' p hR))
  | succ j ih =>
    intro d x2 p hd hx hp
    have he := hV _ (sq_g (l := l) (i := j) (by omega))
    have hs : a_subject (nI (sq_a l j)).toNatClampNeg = nI (pg_nm P (sq_a l j)) := by rw [nI_clamp (by have := he.1; unfold sq_a; omega)]; exact (pX _ he.1).2.1
    have h6 := pg_nm6 ok he.1
    have ei : vp_in (nI (sq_a l j)) 20 := vp_in_nI (by have := he.1; unfold sq_a; omega) (by omega)
    have hi : vp_in (nI j) 20 := vp_in_nI (by omega) (by omega)
    have ej : l.length - 1 - d = j := by omega
    have ed : l.length - 1 - j = d := by omega
    have hfl : sq_sf P (sq_a l) l.length L j = !bt x2 (pg_nm P (sq_a l j)) := by
      unfold sq_sf
      rw [ed]
      rw [hx _ (show pg_nm P (sq_a l j) < 32 by unfold sq_a; omega)]
    rw [pk_m1]
    refine br_f (nI_pos (by omega)) (And.intro hi (nm_r (e' := nI (sq_a l j)) ?_ (And.intro ei (nm_r (congrArg (fun z => (1 : Int32) <<< (z &&& 31)) hs) (br_c (fun h => ?_) (fun h => ?_))))))
    · rw [nI_clamp (by omega)]; exact hw' j (by omega)
    · rw [bb_ab0 (by unfold sq_a; omega)] at h
      rw [h] at hfl
      refine And.intro hi (nm_r (e' := upd p j 1) (by rw [nI_clamp (by omega), bb_n1]) (And.intro hi (br_f (by rw [nI_clamp (by omega), pk_us]; exact bb_10) (nm_e (ih (d + 1) x2 _ (by omega) ?_ ?_)))))
      · intro w hw
        rw [sq_svf ej (by rw [← hx _ (show pg_nm P (sq_a l j) < 32 by unfold sq_a; omega)]; exact h)]; exact hx w hw
      · intro i h1 h2
        by_cases e : i = j
        · rw [e, pk_us, hfl]; rfl
        · rw [pk_un e]; exact hp i (by omega) h2
    · rw [bb_ab0 (by unfold sq_a; omega)] at h
      have h' : bt x2 (pg_nm P (sq_a l j)) = true := by cases z : bt x2 (pg_nm P (sq_a l j)); exact absurd z h; rfl
      rw [h'] at hfl
      have hu : ∀ w, w < 32 → (bt (a_uses (sq_a l j)) w = true ↔ pg_rd P (sq_a l j) w) := ((pX _ he.1).2.2.2 he.2).2.2
      refine And.intro hi (nm_r (e' := upd p j 0) (by rw [nI_clamp (by omega), bb_n0]) (And.intro hi (br_t (by rw [nI_clamp (by omega), pk_us]) (And.intro ei (nm_e (nm_e (ih (d + 1) _ _ (by omega) ?_ ?_)))))))
      · intro w hw
        rw [sq_svt ej (by rw [← hx _ (show pg_nm P (sq_a l j) < 32 by unfold sq_a; omega)]; exact h'), nI_clamp (by have := he.1; unfold sq_a; omega), b_or, b_and, bb_not hw, bb_bit (by unfold sq_a; omega) hw, hx w hw, Bool.or_comm]
        rw [cq_b (hu w hw)]
      · intro i h1 h2
        by_cases e : i = j
        · rw [e, pk_us, hfl]; rfl
        · rw [pk_un e]; exact hp i (by omega) h2
theorem qx_sift {post : SX → Prop} {l : List Nat} {m : Nat} (ok : pg_ok P) (pX : pg_X P a_code a_subject a_left a_right a_dest a_uses) (hN : ∀ n w, n < pg_sz P → w < 32 → (bt (a_need n) w = true ↔ nd_N P n w)) (hm : m < pg_sz P) (hV : sq_V P l) (hl : l.length ≤ 20) (hw : sq_R a_work 0 l)
    (K : ∀ w' p', sq_R w' 0 (sq_s P m l) → post (f_opOut, f_opBranch, f_opJump, f_cap, f_vars, f_size, f_sealed, f_queued, (nI (sq_s P m l).length), a_code, a_subject, a_left, a_right, a_dest, a_uses, a_entryCount, a_need, a_sched, a_schedLen, a_held, a_heldLen, a_reached, a_queue, w', p', a_inputs, a_store, a_outs, a_outLen, a_counts)) :
    wpX_sift post (f_opOut, f_opBranch, f_opJump, f_cap, f_vars, f_size, f_sealed, f_queued, (nI l.length), a_code, a_subject, a_left, a_right, a_dest, a_uses, a_entryCount, a_need, a_sched, a_schedLen, a_held, a_heldLen, a_reached, a_queue, a_work, a_picked, a_inputs, a_store, a_outs, a_outLen, a_counts) (nI m) := by
  have h20 := pg_sz20 ok
  refine And.intro (vp_in_nI (by omega) (by omega)) (nm_e (nm_r (nb_s1 _) ⟨l.length + 1, qx_sift14 (L := sq_L P m) ok pX hV hl hw K l.length 0 _ a_picked (by omega) ?_ (fun i h1 h2 => by omega)⟩))
  intro w hw
  rw [nI_clamp (by omega)]
  exact cq_b (hN m w hm hw)
/-! ===== schedule, pull ===== -/
theorem qx_schedule {post : SX → Prop} {b e : Nat} {l : List Nat} (hb : b < 60) (hB : sq_B a_sched a_schedLen b l) (hl : l.length < 20)
    (K : ∀ s' z', sq_B s' z' b (l ++ [e]) → sq_O a_sched a_schedLen s' z' b → post (f_opOut, f_opBranch, f_opJump, f_cap, f_vars, f_size, f_sealed, f_queued, f_workLen, a_code, a_subject, a_left, a_right, a_dest, a_uses, a_entryCount, a_need, s', z', a_held, a_heldLen, a_reached, a_queue, a_work, a_picked, a_inputs, a_store, a_outs, a_outLen, a_counts)) : wpX_schedule post (f_opOut, f_opBranch, f_opJump, f_cap, f_vars, f_size, f_sealed, f_queued, f_workLen, a_code, a_subject, a_left, a_right, a_dest, a_uses, a_entryCount, a_need, a_sched, a_schedLen, a_held, a_heldLen, a_reached, a_queue, a_work, a_picked, a_inputs, a_store, a_outs, a_outLen, a_counts) (nI b) (nI e) := by
  have hz : a_schedLen (nI b).toNatClampNeg = nI l.length := by rw [nI_clamp (by omega)]; exact hB.1
  have hi : vp_in (nI b) 60 := vp_in_nI hb (by omega)
  refine And.intro hi ?_
  rw [hz, nb_m20]
  refine And.intro (vp_in_nI (by omega) (by omega)) (nm_r (e' := upd a_sched (b * 20 + l.length) (nI e)) (by rw [nI_clamp (by omega)]) (And.intro hi (And.intro hi (nm_r (e' := upd a_schedLen b (nI (l.length + 1))) (by rw [nI_clamp (by omega), nI_1]) (K _ _ ⟨?_, ?_, ?_⟩ ⟨?_, ?_⟩)))))
  · rw [pk_us, sq_len]
  · refine sq_Ra ?_ pk_us
    intro i hi
    rw [pk_un (by omega)]; exact hB.2.1 i hi
  · rw [sq_len]; omega
  · intro c hc; exact pk_un hc
  · intro j hj; exact pk_un (by omega)
theorem qx_pull111 {post : SX → Prop} {n : Nat} {l : List Nat} {F : Nat → Bool} {s0 z0 : Nat → Int32} (hn : n < 20) (hl : l.length ≤ 20) (hw : ∀ j, j < l.length → a_work j = nI (sq_a l j)) (hp : sq_F a_picked F 0 l.length)
    (K : ∀ w' s' z', sq_R w' 0 (sq_k (sq_a l) F l.length) → sq_B s' z' n (sq_k (sq_a l) (fun i => !F i) l.length) → sq_O s0 z0 s' z' n → post (f_opOut, f_opBranch, f_opJump, f_cap, f_vars, f_size, f_sealed, f_queued, (nI (sq_k (sq_a l) F l.length).length), a_code, a_subject, a_left, a_right, a_dest, a_uses, a_entryCount, a_need, s', z', a_held, a_heldLen, a_reached, a_queue, w', a_picked, a_inputs, a_store, a_outs, a_outLen, a_counts)) :
    ∀ (d i : Nat) (s z : Nat → Int32), i + d = l.length → sq_B s z n (sq_k (sq_a l) (fun i => !F i) i) → sq_O s0 z0 s z n →
    wX_pull_111 post (nI n) (d + 1) (nI i) f_opOut f_opBranch f_opJump f_cap f_vars f_size f_sealed f_queued (nI l.length) a_code a_subject a_left a_right a_dest a_uses a_entryCount a_need s z a_held a_heldLen a_reached a_queue a_work a_picked a_inputs a_store a_outs a_outLen a_counts := by
  intro d
  induction d with
  | zero =>
    intro i s z hi hB hO
    have e : i = l.length := by omega
    subst e
    exact br_t (nI_le (by omega) (by omega)) (qx_removePicked (g := sq_a l) (F := F) hl hp hw (fun w' hR => K w' s z hR hB hO))
  | succ d ih =>
    intro i s z hi hB hO
    have hk := sq_kl (g := sq_a l) (F := fun i => !F i) i
    have hpi : a_picked (nI i).toNatClampNeg = nb_b (F i) := by rw [nI_clamp (by omega)]; exact hp i (by omega) (by omega)
    refine br_f (nI_ge (by omega) (by omega)) (And.intro (vp_in_nI (by omega) (by omega)) ?_)
    rw [hpi]
    cases hF : F i
    · refine br_t rfl (nm_r (nI_1 i) (ih (i + 1) s z (by omega) ?_ hO))
      rw [sq_kt (by show (!F i) = true; rw [hF]; rfl)]; exact hB
    · refine br_f bb_10 (And.intro (vp_in_nI (by omega) (by omega)) ?_)
      rw [nI_clamp (by omega), hw i (by omega)]
      refine qx_schedule (by omega) hB (by omega) (fun s' z' h1 h2 => nm_r (nI_1 i) (ih (i + 1) s' z' (by omega) ?_ (sq_Ot hO h2)))
      rw [sq_kf (by show (!F i) = false; rw [hF]; rfl)]; exact h1
theorem qx_pull19 {post : SX → Prop} {n v : Nat} {l : List Nat} (ok : pg_ok P) (pX : pg_X P a_code a_subject a_left a_right a_dest a_uses) (hn : n < 20) (hV : sq_V P l) (hl : l.length ≤ 20) (hw : sq_R a_work 0 l) (hB0 : sq_B a_sched a_schedLen n [])
    (K : ∀ w' p' s' z', sq_R w' 0 (sq_pr P v l) → sq_B s' z' n (sq_pl P v l) → sq_O a_sched a_schedLen s' z' n → post (f_opOut, f_opBranch, f_opJump, f_cap, f_vars, f_size, f_sealed, f_queued, (nI (sq_pr P v l).length), a_code, a_subject, a_left, a_right, a_dest, a_uses, a_entryCount, a_need, s', z', a_held, a_heldLen, a_reached, a_queue, w', p', a_inputs, a_store, a_outs, a_outLen, a_counts)) :
    ∀ (j d : Nat) (x2 x3 : Int32) (p : Nat → Int32), j + d = l.length →
    (∀ w, w < 32 → (bt x2 w = true ↔ w = v ∨ ∃ i, i < l.length ∧ sq_pf P (sq_a l) l.length v d i = true ∧ pg_rd P (sq_a l i) w)) →
    (∀ w, w < 32 → (bt x3 w = true ↔ ∃ i, i < l.length ∧ sq_pf P (sq_a l) l.length v d i = true ∧ pg_nm P (sq_a l i) = w)) →
    sq_F p (sq_pf P (sq_a l) l.length v d) j l.length →
    wX_pull_19 post (nI n) f_opOut f_opBranch f_opJump f_cap f_vars f_size f_sealed f_queued (nI l.length) (j + 1) x2 x3 (nI j + (-1)) a_code a_subject a_left a_right a_dest a_uses a_entryCount a_need a_sched a_schedLen a_held a_heldLen a_reached a_queue a_work p a_inputs a_store a_outs a_outLen a_counts := by
  have h20 := pg_sz20 ok
  have hw' : ∀ j, j < l.length → a_work j = nI (sq_a l j) := by
    intro j hj
    have := hw j hj
    rw [Nat.zero_add] at this; exact this
  intro j
  induction j with
  | zero =>
    intro d x2 x3 p hd hx2 hx3 hp
    have ed : d = l.length := by omega
    subst ed
    exact br_t nb_neg ⟨l.length + 1, qx_pull111 (F := sq_fl P v l) hn hl hw' hp (fun w' s' z' h1 h2 h3 => K w' p s' z' h1 h2 h3) l.length 0 a_sched a_schedLen (by omega) hB0 sq_O0⟩
  | succ j ih =>
    intro d x2 x3 p hd hx2 hx3 hp
    have he := hV _ (sq_g (l := l) (i := j) (by omega))
    have he1 : sq_a l j < 20 := by have := he.1; unfold sq_a; omega
    have hs : a_subject (nI (sq_a l j)).toNatClampNeg = nI (pg_nm P (sq_a l j)) := by rw [nI_clamp (by omega)]; exact (pX _ he.1).2.1
    have h6 : pg_nm P (sq_a l j) < 6 := pg_nm6 ok he.1
    have hu : ∀ w, w < 32 → (bt (a_uses (sq_a l j)) w = true ↔ pg_rd P (sq_a l j) w) := ((pX _ he.1).2.2.2 he.2).2.2
    have ei : vp_in (nI (sq_a l j)) 20 := vp_in_nI he1 (by omega)
    have hi : vp_in (nI j) 20 := vp_in_nI (by omega) (by omega)
    have ej : l.length - 1 - d = j := by omega
    have hfj := sq_pfj (P := P) (g := sq_a l) (v := v) ej
    have hp' : ∀ b, sq_pf P (sq_a l) l.length v (d + 1) j = b → sq_F (upd p j (nb_b b)) (sq_pf P (sq_a l) l.length v (d + 1)) j l.length := by
      intro b hb i h1 h2
      by_cases e : i = j
      · rw [e, pk_us, hb]
      · rw [pk_un e, sq_pfo ej e]; exact hp i (by omega) h2
    have H1 : sq_pf P (sq_a l) l.length v (d + 1) j = true → wX_pull_76 post (wX_pull_19 post (nI n) f_opOut f_opBranch f_opJump f_cap f_vars f_size f_sealed f_queued (nI l.length) (j + 1)) (nI n) x2 x3 (nI j) (nI (sq_a l j)) ((1 : Int32) <<< (nI (pg_nm P (sq_a l j)) &&& 31)) 1 (nI j) f_opOut f_opBranch f_opJump f_cap f_vars f_size f_sealed f_queued (nI l.length) a_code a_subject a_left a_right a_dest a_uses a_entryCount a_need a_sched a_schedLen a_held a_heldLen a_reached a_queue a_work p a_inputs a_store a_outs a_outLen a_counts := by
      intro hf
      refine And.intro hi (nm_r (e' := upd p j 1) (by rw [nI_clamp (by omega), bb_n1]) (And.intro hi (br_f (by rw [nI_clamp (by omega), pk_us]; exact bb_10) (nm_e (And.intro ei (nm_e (nm_e (ih (d + 1) _ _ _ (by omega) ?_ ?_ (hp' true hf)))))))))
      · intro w hw
        rw [sq_pfE (by omega) ej, b_or, Bool.or_eq_true, hx2 w hw, nI_clamp (by omega), hu w hw]
        constructor
        · rintro ((a | a) | a)
          · exact Or.inl a
          · exact Or.inr (Or.inr a)
          · exact Or.inr (Or.inl ⟨hf, a⟩)
        · rintro (a | a | a)
          · exact Or.inl (Or.inl a)
          · exact Or.inr a.2
          · exact Or.inl (Or.inr a)
      · intro w hw
        rw [sq_pfE (by omega) ej, b_or, Bool.or_eq_true, hx3 w hw, bb_bit (by omega) hw]
        constructor
        · rintro (a | a)
          · exact Or.inr a
          · exact Or.inl ⟨hf, (of_decide_eq_true a).symm⟩
        · rintro (a | a)
          · exact Or.inr (decide_eq_true a.2.symm)
          · exact Or.inl a
    have H0 : sq_pf P (sq_a l) l.length v (d + 1) j = false → wX_pull_76 post (wX_pull_19 post (nI n) f_opOut f_opBranch f_opJump f_cap f_vars f_size f_sealed f_queued (nI l.length) (j + 1)) (nI n) x2 x3 (nI j) (nI (sq_a l j)) ((1 : Int32) <<< (nI (pg_nm P (sq_a l j)) &&& 31)) 0 (nI j) f_opOut f_opBranch f_opJump f_cap f_vars f_size f_sealed f_queued (nI l.length) a_code a_subject a_left a_right a_dest a_uses a_entryCount a_need a_sched a_schedLen a_held a_heldLen a_reached a_queue a_work p a_inputs a_store a_outs a_outLen a_counts := by
      intro hf
      have hnt : ¬ sq_pf P (sq_a l) l.length v (d + 1) j = true := by rw [hf]; decide
      refine And.intro hi (nm_r (e' := upd p j 0) (by rw [nI_clamp (by omega), bb_n0]) (And.intro hi (br_t (by rw [nI_clamp (by omega), pk_us]) (nm_e (ih (d + 1) _ _ _ (by omega) ?_ ?_ (hp' false hf))))))
      · intro w hw
        rw [sq_pfE (by omega) ej, hx2 w hw]
        constructor
        · rintro (a | a)
          · exact Or.inl a
          · exact Or.inr (Or.inr a)
        · rintro (a | a | a)
          · exact Or.inl a
          · exact absurd a.1 hnt
          · exact Or.inr a
      · intro w hw
        rw [sq_pfE (by omega) ej, hx3 w hw]
        constructor
        · exact Or.inr
        · rintro (a | a)
          · exact absurd a.1 hnt
          · exact a
    rw [pk_m1]
    refine br_f (nI_pos (by omega)) (And.intro hi (nm_r (e' := nI (sq_a l j)) ?_ (And.intro ei (nm_r (congrArg (fun z => (1 : Int32) <<< (z &&& 31)) hs) (br_c (fun h => And.intro ei (br_c (fun h2 => H0 ?_) (fun h2 => H1 ?_))) (fun h => H1 ?_))))))
    · rw [nI_clamp (by omega)]; exact hw' j (by omega)
    · rw [bb_ba0 (by omega), b_or, Bool.or_eq_false_iff] at h
      rw [nI_clamp (by omega), bb_and0] at h2
      rw [hfj, cq_f]
      rintro (a | ⟨i, hil, hpf, c⟩)
      · have := (hx2 _ (by omega)).mpr (Or.inl a)
        rw [h.1] at this; exact absurd this (by decide)
      · rcases c with c | c | c
        · have := (hx3 _ (show pg_nm P (sq_a l j) < 32 by omega)).mpr ⟨i, hil, hpf, c.symm⟩
          rw [h.2] at this; exact absurd this (by decide)
        · have h7 : pg_nm P (sq_a l i) < 6 := pg_nm6 ok (hV _ (sq_g hil)).1
          exact h2 (pg_nm P (sq_a l i)) (by omega) ⟨(hu _ (by omega)).mpr c, (hx3 _ (by omega)).mpr ⟨i, hil, hpf, rfl⟩⟩
        · have := (hx2 _ (show pg_nm P (sq_a l j) < 32 by omega)).mpr (Or.inr ⟨i, hil, hpf, c⟩)
          rw [h.1] at this; exact absurd this (by decide)
    · rw [nI_clamp (by omega), bb_and0] at h2
      rw [hfj, cq_t]
      apply Classical.byContradiction
      intro hno
      apply h2
      intro w hw hb
      obtain ⟨i, hil, hpf, e⟩ := (hx3 w hw).mp hb.2
      exact hno (Or.inr ⟨i, hil, hpf, Or.inr (Or.inl (by rw [e]; exact (hu w hw).mp hb.1))⟩)
    · rw [bb_ba0 (by omega), b_or, Bool.or_eq_false_iff] at h
      rw [hfj, cq_t]
      apply Classical.byContradiction
      intro hno
      apply h
      constructor
      · cases z : bt x2 (pg_nm P (sq_a l j))
        · rfl
        · rcases (hx2 _ (by omega)).mp z with a | ⟨i, hil, hpf, c⟩
          · exact absurd (Or.inl a) hno
          · exact absurd (Or.inr ⟨i, hil, hpf, Or.inr (Or.inr c)⟩) hno
      · cases z : bt x3 (pg_nm P (sq_a l j))
        · rfl
        · obtain ⟨i, hil, hpf, c⟩ := (hx3 _ (by omega)).mp z
          exact absurd (Or.inr ⟨i, hil, hpf, Or.inl c.symm⟩) hno
theorem qx_pull {post : SX → Prop} {n : Nat} {l : List Nat} (ok : pg_ok P) (pX : pg_X P a_code a_subject a_left a_right a_dest a_uses) (hn : n < pg_sz P) (hV : sq_V P l) (hl : l.length ≤ 20) (hw : sq_R a_work 0 l) (hB0 : sq_B a_sched a_schedLen n [])
    (K : ∀ w' p' s' z', sq_R w' 0 (sq_pr P (pg_nm P n) l) → sq_B s' z' n (sq_pl P (pg_nm P n) l) → sq_O a_sched a_schedLen s' z' n → post (f_opOut, f_opBranch, f_opJump, f_cap, f_vars, f_size, f_sealed, f_queued, (nI (sq_pr P (pg_nm P n) l).length), a_code, a_subject, a_left, a_right, a_dest, a_uses, a_entryCount, a_need, s', z', a_held, a_heldLen, a_reached, a_queue, w', p', a_inputs, a_store, a_outs, a_outLen, a_counts)) :
    wpX_pull post (f_opOut, f_opBranch, f_opJump, f_cap, f_vars, f_size, f_sealed, f_queued, (nI l.length), a_code, a_subject, a_left, a_right, a_dest, a_uses, a_entryCount, a_need, a_sched, a_schedLen, a_held, a_heldLen, a_reached, a_queue, a_work, a_picked, a_inputs, a_store, a_outs, a_outLen, a_counts) (nI n) := by
  have h20 := pg_sz20 ok
  have h6 := pg_nm6 ok hn
  have hs : a_subject (nI n).toNatClampNeg = nI (pg_nm P n) := by rw [nI_clamp (by omega)]; exact (pX n hn).2.1
  refine And.intro (vp_in_nI (by omega) (by omega)) (nm_r (congrArg (fun z => (1 : Int32) <<< (z &&& 31)) hs) (nm_r (nb_s1 _) ⟨l.length + 1, qx_pull19 (v := pg_nm P n) ok pX (by omega) hV hl hw hB0 K l.length 0 _ _ a_picked (by omega) ?_ ?_ (fun i h1 h2 => by omega)⟩))
  · intro w hw
    rw [bb_bit (by omega) hw]
    constructor
    · intro h; exact Or.inl (of_decide_eq_true h)
    · rintro (a | ⟨i, _, z, _⟩)
      · exact decide_eq_true a
      · exact absurd z (by show ¬ false = true; decide)
  · intro w hw
    rw [b_0]
    constructor
    · intro h; exact absurd h (by decide)
    · rintro ⟨i, _, z, _⟩
      exact absurd z (by show ¬ false = true; decide)
end
end
section
/-! ===== the plan's invariant: A arrival lists, pn planned nodes, dn planned edges ===== -/
def bs_Q (P : pg_T) (re qu : Nat → Int32) (q : Nat) : Prop := (∀ j, j < q → ∃ n, n < pg_sz P ∧ qu j = nI n ∧ re n ≠ 0) ∧ (∀ n, n < pg_sz P → re n ≠ 0 → ∃ j, j < q ∧ qu j = nI n) ∧ (∀ j j' n, j < q → j' < q → n < 20 → qu j = nI n → qu j' = nI n → j = j') ∧ cn_n (cn_b re) 20 = q
/-- what reach gives -/
def bs_R (re qu : Nat → Int32) (q m : Nat) (re' qu' : Nat → Int32) (q' : Nat) : Prop := (re m ≠ 0 ∧ re' = re ∧ qu' = qu ∧ q' = q) ∨ (re m = 0 ∧ re' = upd re m 1 ∧ qu' = upd qu q (nI m) ∧ q' = q + 1)
def bs_X (re qu : Nat → Int32) (q : Nat) (re' qu' : Nat → Int32) (q' : Nat) : Prop := q ≤ q' ∧ (∀ j, j < q → qu' j = qu j) ∧ ∀ x, re x ≠ 0 → re' x ≠ 0
def bs_e (P : pg_T) (A : Nat → List Nat) (sc sl : Nat → Int32) (n k : Nat) : Prop := pg_te P n k < pg_sz P → (2 ≤ pg_en P (pg_te P n k) → sq_B sc sl (20 + 2 * n + k) (sq_s P (pg_te P n k) (sq_DD P n (A n)))) ∧ (¬ 2 ≤ pg_en P (pg_te P n k) → A (pg_te P n k) = sq_DD P n (A n) ∧ sq_B sc sl (20 + 2 * n + k) [])
def bs_I (P : pg_T) (A : Nat → List Nat) (pn : Nat → Prop) (dn : Nat → Nat → Prop) (sc sl he hl re qu : Nat → Int32) (q : Nat) : Prop :=
  bs_Q P re qu q ∧
  (∀ n, n < pg_sz P → re n ≠ 0 → sq_V P (A n) ∧ (n = 0 ∨ ∃ n' k', dn n' k' ∧ pg_te P n' k' = n)) ∧
  (∀ n, n < pg_sz P → re n = 0 → A n = []) ∧
  (∀ n, (2 ≤ pg_en P n ∨ n = 0) → A n = []) ∧
  (∀ n, pn n → n < pg_sz P ∧ re n ≠ 0 ∧ sq_B sc sl n (sq_PL P n (A n)) ∧ sq_B he hl n (sq_DD P n (A n))) ∧
  (∀ n, n < pg_sz P → ¬ pn n → sq_B sc sl n [] ∧ sq_B he hl n (A n)) ∧
  (∀ n k, dn n k → pn n ∧ k < pg_ec P n ∧ (pg_te P n k < pg_sz P → re (pg_te P n k) ≠ 0) ∧ bs_e P A sc sl n k) ∧
  (∀ n k, n < pg_sz P → k < 2 → ¬ dn n k → sq_B sc sl (20 + 2 * n + k) []) ∧
  (∀ j n, j < q → n < pg_sz P → qu j = nI n → (A n).length ≤ j)
section
variable {P : pg_T} {A : Nat → List Nat} {pn : Nat → Prop} {dn : Nat → Nat → Prop} {sc sl he hl re qu sc' sl' he' hl' re' qu' : Nat → Int32} {q q' n k m : Nat}
theorem bs_q20 (h : bs_Q P re qu q) : q ≤ 20 := by
  rw [← h.2.2.2]; exact cn_le _ 20
theorem bs_room (h : bs_Q P re qu q) (hm : m < 20) (hr : re m = 0) : q < 20 := by
  rw [← h.2.2.2]; exact cn_room hm (cn_bf.mpr hr)
theorem bs_Q0 (h : ∀ n, n < 20 → re n = 0) (ok : pg_ok P) : bs_Q P re qu 0 := by
  have h20 := pg_sz20 ok
  exact ⟨fun j hj => absurd hj (Nat.not_lt_zero j), fun n hn z => absurd (h n (by omega)) z, fun j _ _ hj => absurd hj (Nat.not_lt_zero j), cn_zero 20 (fun i hi => cn_bf.mpr (h i hi))⟩
theorem bs_RQ (ok : pg_ok P) (h : bs_Q P re qu q) (hm : m < pg_sz P) (r : bs_R re qu q m re' qu' q') : bs_Q P re' qu' q' := by
  have h20 := pg_sz20 ok
  rcases r with ⟨_, e1, e2, e3⟩ | ⟨h0, e1, e2, e3⟩
  · subst e1 e2 e3; exact h
  · subst e1 e2 e3
    have hre : ∀ x, re x ≠ 0 → upd re m 1 x ≠ 0 := by
      intro x hx
      by_cases e : x = m
      · rw [e, pk_us]; exact bb_10
      · rw [pk_un e]; exact hx
    refine ⟨?_, ?_, ?_, ?_⟩
    · intro j hj
      by_cases e : j = q
      · rw [e, pk_us]; exact ⟨m, hm, rfl, by rw [pk_us]; exact bb_10⟩
      · obtain ⟨x, a, b, c⟩ := h.1 j (by omega)
        rw [pk_un e]; exact ⟨x, a, b, hre x c⟩
    · intro x hx hr
      by_cases e : x = m
      · exact ⟨q, by omega, by rw [e, pk_us]⟩
      · rw [pk_un e] at hr
        obtain ⟨j, a, b⟩ := h.2.1 x hx hr
        exact ⟨j, by omega, by rw [pk_un (by omega)]; exact b⟩
    · have old : ∀ j x, j < q → x < 20 → qu j = nI x → x ≠ m := by
        intro j x hj hx e z
        obtain ⟨y, a, b, c⟩ := h.1 j hj
        have : y = x := nb_eq (b.symm.trans e) (by omega) (by omega)
        rw [this, z] at c; exact c h0
      intro j j' x hj hj' hx a b
      by_cases e : j = q
      · by_cases e' : j' = q
        · omega
        · rw [e, pk_us] at a
          rw [pk_un e'] at b
          have : m = x := nb_eq a (by omega) (by omega)
          exact absurd this.symm (old j' x (by omega) hx b)
      · rw [pk_un e] at a
        by_cases e' : j' = q
        · rw [e', pk_us] at b
          have : m = x := nb_eq b (by omega) (by omega)
          exact absurd this.symm (old j x (by omega) hx a)
        · rw [pk_un e'] at b
          exact h.2.2.1 j j' x (by omega) (by omega) hx a b
    · rw [← h.2.2.2]
      refine cn_add (x := m) (cn_bf.mpr h0) (cn_bt.mpr (by rw [pk_us]; exact bb_10)) 20 (by omega) ?_
      intro i _ e
      unfold cn_b
      rw [pk_un e]
theorem bs_RX (r : bs_R re qu q m re' qu' q') : bs_X re qu q re' qu' q' := by
  rcases r with ⟨_, e1, e2, e3⟩ | ⟨h0, e1, e2, e3⟩
  · subst e1 e2 e3; exact ⟨Nat.le_refl _, fun _ _ => rfl, fun _ h => h⟩
  · subst e1 e2 e3
    refine ⟨by omega, fun j hj => pk_un (by omega), ?_⟩
    intro x hx
    by_cases e : x = m
    · rw [e, pk_us]; exact bb_10
    · rw [pk_un e]; exact hx
theorem bs_X0 : bs_X re qu q re qu q := ⟨Nat.le_refl _, fun _ _ => rfl, fun _ h => h⟩
theorem bs_Xt {re'' qu'' : Nat → Int32} {q'' : Nat} (h : bs_X re qu q re' qu' q') (h' : bs_X re' qu' q' re'' qu'' q'') : bs_X re qu q re'' qu'' q'' :=
  ⟨Nat.le_trans h.1 h'.1, fun j hj => (h'.2.1 j (Nat.lt_of_lt_of_le hj h.1)).trans (h.2.1 j hj), fun x hx => h'.2.2 x (h.2.2 x hx)⟩
theorem bs_Rm (r : bs_R re qu q m re' qu' q') : re' m ≠ 0 := by
  rcases r with ⟨h, e1, _, _⟩ | ⟨h0, e1, _, _⟩
  · rw [e1]; exact h
  · rw [e1, pk_us]; exact bb_10
theorem bs_Ro (r : bs_R re qu q m re' qu' q') {x : Nat} (hx : x ≠ m) : re' x = re x := by
  rcases r with ⟨h, e1, _, _⟩ | ⟨h0, e1, _, _⟩
  · rw [e1]
  · rw [e1, pk_un hx]
theorem bs_Rq (r : bs_R re qu q m re' qu' q') (hm : m < 20) {j x : Nat} (hj : j < q') (hx : x < 20) (e : qu' j = nI x) : (j < q ∧ qu j = nI x) ∨ (j = q ∧ x = m ∧ re m = 0) := by
  rcases r with ⟨h, _, e2, e3⟩ | ⟨h0, _, e2, e3⟩
  · subst e2 e3; exact Or.inl ⟨hj, e⟩
  · subst e2 e3
    by_cases z : j = q
    · rw [z, pk_us] at e
      exact Or.inr ⟨z, (nb_eq e (by omega) (by omega)).symm, h0⟩
    · rw [pk_un z] at e; exact Or.inl ⟨by omega, e⟩
/-- a node's own block and its list on leaving -/
theorem bs_own (ok : pg_ok P) (I : bs_I P A pn dn sc sl he hl re qu q) (hn : n < pg_sz P) (hr : re n ≠ 0) (hp : ¬ pn n) (h1 : sq_B sc' sl' n (sq_PL P n (A n))) (o1 : sq_O sc sl sc' sl' n) (h2 : sq_B he' hl' n (sq_DD P n (A n))) (o2 : sq_O he hl he' hl' n) : bs_I P A (fun x => pn x ∨ x = n) dn sc' sl' he' hl' re qu q := by
  have h20 := pg_sz20 ok
  obtain ⟨i1, i2, i3, i4, i5, i6, i7, i8, i9⟩ := I
  refine ⟨i1, i2, i3, i4, ?_, ?_, ?_, ?_, i9⟩
  · intro x hx
    by_cases e : x = n
    · rw [e]; exact ⟨hn, hr, h1, h2⟩
    · rcases hx with hx | hx
      · obtain ⟨a, b, c, d⟩ := i5 x hx
        exact ⟨a, b, sq_Bo o1 e c, sq_Bo o2 e d⟩
      · exact absurd hx e
  · intro x hx hnp
    have e : x ≠ n := fun z => hnp (Or.inr z)
    obtain ⟨a, b⟩ := i6 x hx (fun z => hnp (Or.inl z))
    exact ⟨sq_Bo o1 e a, sq_Bo o2 e b⟩
  · intro x y hd
    obtain ⟨a, b, c, d⟩ := i7 x y hd
    refine ⟨Or.inl a, b, c, ?_⟩
    intro ht
    obtain ⟨d1, d2⟩ := d ht
    exact ⟨fun z => sq_Bo o1 (by omega) (d1 z), fun z => ⟨(d2 z).1, sq_Bo o1 (by omega) (d2 z).2⟩⟩
  · intro x y hx hy hd
    exact sq_Bo o1 (by omega) (i8 x y hx hy hd)
/-- an edge out of the program -/
theorem bs_out (I : bs_I P A pn dn sc sl he hl re qu q) (hp : pn n) (hk : k < pg_ec P n) (ht : ¬ pg_te P n k < pg_sz P) : bs_I P A pn (fun a b => dn a b ∨ (a = n ∧ b = k)) sc sl he hl re qu q := by
  obtain ⟨i1, i2, i3, i4, i5, i6, i7, i8, i9⟩ := I
  refine ⟨i1, ?_, i3, i4, i5, i6, ?_, ?_, i9⟩
  · intro x hx hr
    obtain ⟨a, b⟩ := i2 x hx hr
    refine ⟨a, ?_⟩
    rcases b with b | ⟨n', k', c, d⟩
    · exact Or.inl b
    · exact Or.inr ⟨n', k', Or.inl c, d⟩
  · intro x y hd
    rcases hd with hd | ⟨e1, e2⟩
    · exact i7 x y hd
    · subst e1 e2
      exact ⟨hp, hk, fun z => absurd z ht, fun z => absurd z ht⟩
  · intro x y hx hy hd
    exact i8 x y hx hy (fun z => hd (Or.inl z))
/-- an edge into a meeting -/
theorem bs_meet (ok : pg_ok P) (I : bs_I P A pn dn sc sl he hl re qu q) (hp : pn n) (hk : k < pg_ec P n) (hd : ¬ dn n k) (hm : pg_te P n k = m) (hms : m < pg_sz P) (h2 : 2 ≤ pg_en P m) (hB : sq_B sc' sl' (20 + 2 * n + k) (sq_s P m (sq_DD P n (A n)))) (o : sq_O sc sl sc' sl' (20 + 2 * n + k)) (r : bs_R re qu q m re' qu' q') : bs_I P A pn (fun a b => dn a b ∨ (a = n ∧ b = k)) sc' sl' he hl re' qu' q' := by
  have h20 := pg_sz20 ok
  have hec := pg_ec12 (P := P)
  obtain ⟨i1, i2, i3, i4, i5, i6, i7, i8, i9⟩ := I
  have hX := bs_RX r
  have Am : A m = [] := i4 m (Or.inl h2)
  refine ⟨bs_RQ ok i1 hms r, ?_, ?_, i4, ?_, ?_, ?_, ?_, ?_⟩
  · intro x hx hr
    by_cases e : x = m
    · refine ⟨by rw [e, Am]; exact sq_Vn, Or.inr ⟨n, k, Or.inr ⟨rfl, rfl⟩, by rw [hm, e]⟩⟩
    · rw [bs_Ro r e] at hr
      obtain ⟨a, b⟩ := i2 x hx hr
      refine ⟨a, ?_⟩
      rcases b with b | ⟨n', k', c, d⟩
      · exact Or.inl b
      · exact Or.inr ⟨n', k', Or.inl c, d⟩
  · intro x hx hr
    by_cases e : x = m
    · rw [e]; exact Am
    · rw [bs_Ro r e] at hr; exact i3 x hx hr
  · intro x hx
    obtain ⟨a, b, c, d⟩ := i5 x hx
    exact ⟨a, hX.2.2 x b, sq_Bo o (by omega) c, d⟩
  · intro x hx hnp
    obtain ⟨a, b⟩ := i6 x hx hnp
    exact ⟨sq_Bo o (by omega) a, b⟩
  · intro x y hd'
    by_cases e : x = n ∧ y = k
    · obtain ⟨e1, e2⟩ := e
      subst e1 e2
      refine ⟨hp, hk, fun _ => by rw [hm]; exact bs_Rm r, fun _ => ?_⟩
      rw [hm]
      exact ⟨fun _ => hB, fun z => absurd h2 z⟩
    · rcases hd' with hd' | hd'
      · obtain ⟨a, b, c, d⟩ := i7 x y hd'
        have hb2 := hec x
        have hb3 := hec n
        have hne : 20 + 2 * x + y ≠ 20 + 2 * n + k := by
          intro z
          have : x = n ∧ y = k := by omega
          exact e this
        refine ⟨a, b, fun z => hX.2.2 _ (c z), fun z => ?_⟩
        obtain ⟨d1, d2⟩ := d z
        exact ⟨fun y1 => sq_Bo o hne (d1 y1), fun y1 => ⟨(d2 y1).1, sq_Bo o hne (d2 y1).2⟩⟩
      · exact absurd hd' e
  · intro x y hx hy hd'
    have hb3 := hec n
    have hne : 20 + 2 * x + y ≠ 20 + 2 * n + k := by
      intro z
      have : x = n ∧ y = k := by omega
      exact hd' (Or.inr this)
    exact sq_Bo o hne (i8 x y hx hy (fun z => hd' (Or.inl z)))
  · intro j x hj hx e
    rcases bs_Rq r (by omega) hj (by omega) e with ⟨a, b⟩ | ⟨_, b, _⟩
    · exact i9 j x a hx b
    · rw [b, Am]; exact Nat.zero_le _
/-- the only way in: the node isn't reached yet -/
theorem bs_new (I : bs_I P A pn dn sc sl he hl re qu q) (hp : pn n) (hk : k < pg_ec P n) (hd : ¬ dn n k) (hm : pg_te P n k = m) (hms : m < pg_sz P) (h2 : ¬ 2 ≤ pg_en P m) : re m = 0 := by
  obtain ⟨i1, i2, i3, i4, i5, i6, i7, i8, i9⟩ := I
  apply Classical.byContradiction
  intro hr
  obtain ⟨_, b⟩ := i2 m hms hr
  have hn := (i5 n hp).1
  rcases b with b | ⟨n', k', c, d⟩
  · subst b; exact h2 (pg_en0 hn hk hm)
  · obtain ⟨a1, a2, _, _⟩ := i7 n' k' c
    refine h2 (pg_en2 hn (i5 n' a1).1 hk a2 hm d ?_)
    rintro ⟨e1, e2⟩
    subst e1 e2
    exact hd c
theorem bs_pass (ok : pg_ok P) (I : bs_I P A pn dn sc sl he hl re qu q) (hp : pn n) (hk : k < pg_ec P n) (hd : ¬ dn n k) (hm : pg_te P n k = m) (hms : m < pg_sz P) (h2 : ¬ 2 ≤ pg_en P m) (hB : sq_B he' hl' m (sq_DD P n (A n))) (o : sq_O he hl he' hl' m) (r : bs_R re qu q m re' qu' q') : bs_I P (fun x => if x = m then sq_DD P n (A n) else A x) pn (fun a b => dn a b ∨ (a = n ∧ b = k)) sc sl he' hl' re' qu' q' := by
  have h20 := pg_sz20 ok
  have hec := pg_ec12 (P := P)
  have hr0 := bs_new I hp hk hd hm hms h2
  obtain ⟨i1, i2, i3, i4, i5, i6, i7, i8, i9⟩ := I
  have hX := bs_RX r
  have Ao : ∀ x, x ≠ m → (fun x => if x = m then sq_DD P n (A n) else A x) x = A x := fun x hx => if_neg hx
  have Am : (fun x => if x = m then sq_DD P n (A n) else A x) m = sq_DD P n (A n) := if_pos rfl
  have rne : ∀ x, re x ≠ 0 → x ≠ m := fun x hx z => hx (by rw [z]; exact hr0)
  have hnp : ¬ pn m := fun z => (i5 m z).2.1 hr0
  obtain ⟨hn, hrn, hBn, hDn⟩ := i5 n hp
  have hnm : n ≠ m := rne n hrn
  have hm0 : m ≠ 0 := by
    intro z
    rw [z] at hm h2
    exact h2 (pg_en0 hn hk hm)
  refine ⟨bs_RQ ok i1 hms r, ?_, ?_, ?_, ?_, ?_, ?_, ?_, ?_⟩
  · intro x hx hr
    by_cases e : x = m
    · refine ⟨?_, Or.inr ⟨n, k, Or.inr ⟨rfl, rfl⟩, by rw [hm, e]⟩⟩
      rw [e, Am]; exact sq_DDV (i2 n hn hrn).1 hn
    · rw [bs_Ro r e] at hr
      obtain ⟨a, b⟩ := i2 x hx hr
      refine ⟨by rw [Ao x e]; exact a, ?_⟩
      rcases b with b | ⟨n', k', c, d⟩
      · exact Or.inl b
      · exact Or.inr ⟨n', k', Or.inl c, d⟩
  · intro x hx hr
    by_cases e : x = m
    · rw [e] at hr; exact absurd hr (bs_Rm r)
    · rw [bs_Ro r e] at hr; rw [Ao x e]; exact i3 x hx hr
  · intro x hx
    have e : x ≠ m := by
      rintro rfl
      rcases hx with hx | hx
      · exact h2 hx
      · exact hm0 hx
    rw [Ao x e]; exact i4 x hx
  · intro x hx
    obtain ⟨a, b, c, d⟩ := i5 x hx
    have e := rne x b
    rw [Ao x e]
    exact ⟨a, hX.2.2 x b, c, sq_Bo o e d⟩
  · intro x hx hnp'
    obtain ⟨a, b⟩ := i6 x hx hnp'
    by_cases e : x = m
    · refine ⟨a, ?_⟩
      rw [e, Am]; exact hB
    · rw [Ao x e]; exact ⟨a, sq_Bo o e b⟩
  · intro x y hd'
    by_cases e : x = n ∧ y = k
    · obtain ⟨e1, e2⟩ := e
      subst e1 e2
      refine ⟨hp, hk, fun _ => by rw [hm]; exact bs_Rm r, fun _ => ?_⟩
      rw [hm, Ao x hnm]
      exact ⟨fun z => absurd z h2, fun _ => ⟨Am, i8 x y hn (by have := hec x; omega) hd⟩⟩
    · rcases hd' with hd' | hd'
      · obtain ⟨a, b, c, d⟩ := i7 x y hd'
        have ex := rne x (i5 x a).2.1
        refine ⟨a, b, fun z => hX.2.2 _ (c z), fun z => ?_⟩
        have et := rne _ (c z)
        rw [Ao x ex, Ao _ et]
        exact d z
      · exact absurd hd' e
  · intro x y hx hy hd'
    exact i8 x y hx hy (fun z => hd' (Or.inl z))
  · intro j x hj hx e
    rcases bs_Rq r (by omega) hj (by omega) e with ⟨a, b⟩ | ⟨a, b, _⟩
    · have hxm : x ≠ m := by
        obtain ⟨y, c1, c2, c3⟩ := i1.1 j a
        have : y = x := nb_eq (c2.symm.trans b) (by omega) (by omega)
        rw [this] at c3; exact rne x c3
      rw [Ao x hxm]; exact i9 j x a hx b
    · rw [b, Am, a]
      obtain ⟨i, hi, e2⟩ := i1.2.1 n hn hrn
      have := i9 i n hi hn e2
      have := sq_DDl (P := P) (n := n) (l := A n)
      omega
/-- at the end -/
def rl_C (P : pg_T) (sc sl : Nat → Int32) : Prop := ∃ (A : Nat → List Nat) (R : Nat → Prop), (0 < pg_sz P → R 0) ∧ A 0 = [] ∧ ∀ n, R n → n < pg_sz P ∧ sq_V P (A n) ∧ (A n).length ≤ 20 ∧ (sq_DD P n (A n)).length ≤ 20 ∧ (2 ≤ pg_en P n → A n = []) ∧ sq_B sc sl n (sq_PL P n (A n)) ∧ ∀ k, k < pg_ec P n → pg_te P n k < pg_sz P → R (pg_te P n k) ∧ bs_e P A sc sl n k
theorem bs_fin (ok : pg_ok P) (I : bs_I P A pn dn sc sl he hl re qu q) (h0 : 0 < pg_sz P → re 0 ≠ 0) (hall : ∀ n, n < pg_sz P → re n ≠ 0 → pn n ∧ ∀ k, k < pg_ec P n → dn n k) : rl_C P sc sl := by
  have h20 := pg_sz20 ok
  obtain ⟨i1, i2, i3, i4, i5, i6, i7, i8, i9⟩ := I
  refine ⟨A, fun n => n < pg_sz P ∧ re n ≠ 0, fun h => ⟨h, h0 h⟩, i4 0 (Or.inr rfl), ?_⟩
  rintro n ⟨hn, hr⟩
  obtain ⟨a, b⟩ := hall n hn hr
  obtain ⟨_, _, c1, c2⟩ := i5 n a
  obtain ⟨j, hj, e⟩ := i1.2.1 n hn hr
  have hl := i9 j n hj hn e
  have hq := bs_q20 i1
  refine ⟨hn, (i2 n hn hr).1, by omega, c2.2.2, fun z => i4 n (Or.inl z), c1, ?_⟩
  intro k hk ht
  obtain ⟨_, _, d1, d2⟩ := i7 n k (b k hk)
  exact ⟨⟨ht, d1 ht⟩, d2⟩
/-- at the start -/
theorem bs_ini (ok : pg_ok P) (hsl : ∀ b, b < 60 → sl b = 0) (hhl : ∀ n, n < 20 → hl n = 0) (hre : ∀ n, n < 20 → re n = 0) : bs_I P (fun _ => []) (fun _ => False) (fun _ _ => False) sc sl he hl re qu 0 := by
  have h20 := pg_sz20 ok
  refine ⟨bs_Q0 hre ok, fun n hn hr => absurd (hre n (by omega)) hr, fun _ _ _ => rfl, fun _ _ => rfl, fun n h => absurd h id, fun n hn _ => ⟨⟨hsl n (by omega), sq_Rn, Nat.zero_le _⟩, ⟨hhl n (by omega), sq_Rn, Nat.zero_le _⟩⟩, fun n k h => absurd h id, fun n k hn hk _ => ⟨hsl _ (by omega), sq_Rn, Nat.zero_le _⟩, fun j n hj => absurd hj (Nat.not_lt_zero j)⟩
theorem bs_ini1 (ok : pg_ok P) (hsz : 0 < pg_sz P) (hsl : ∀ b, b < 60 → sl b = 0) (hhl : ∀ n, n < 20 → hl n = 0) (hre : ∀ n, n < 20 → re n = 0) (r : bs_R re qu 0 0 re' qu' q') : bs_I P (fun _ => []) (fun _ => False) (fun _ _ => False) sc sl he hl re' qu' q' := by
  have h20 := pg_sz20 ok
  refine ⟨bs_RQ ok (bs_Q0 hre ok) hsz r, ?_, fun _ _ _ => rfl, fun _ _ => rfl, fun n h => absurd h id, fun n hn _ => ⟨⟨hsl n (by omega), sq_Rn, Nat.zero_le _⟩, ⟨hhl n (by omega), sq_Rn, Nat.zero_le _⟩⟩, fun n k h => absurd h id, fun n k hn hk _ => ⟨hsl _ (by omega), sq_Rn, Nat.zero_le _⟩, fun j n hj _ _ => Nat.zero_le _⟩
  intro n hn hr
  refine ⟨sq_Vn, Or.inl ?_⟩
  apply Classical.byContradiction
  intro e
  rw [bs_Ro r e] at hr
  exact hr (hre n (by omega))
end
end
section
theorem sq_tk : ∀ (l : List Nat) (i : Nat), i < l.length → l.take (i + 1) = l.take i ++ [l.getD i 0]
  | [], i, h => absurd h (Nat.not_lt_zero i)
  | x :: t, 0, _ => rfl
  | x :: t, i + 1, h => by
    have := sq_tk t i (Nat.lt_of_succ_lt_succ h)
    show x :: t.take (i + 1) = x :: (t.take i ++ [t.getD i 0])
    rw [this]
section
variable {f_opOut f_opBranch f_opJump f_cap f_vars f_size f_sealed f_queued f_workLen : Int32} {a_code a_subject a_left a_right a_dest a_uses a_entryCount a_need a_sched a_schedLen a_held a_heldLen a_reached a_queue a_work a_picked a_inputs a_store a_outs a_outLen a_counts : Nat → Int32}
variable {P : pg_T} {A : Nat → List Nat} {pn : Nat → Prop} {dn : Nat → Nat → Prop}
theorem qx_reach {post : SX → Prop} {m q : Nat} (hm : m < 20) (hq : a_reached m = 0 → q < 20)
    (K : ∀ re' qu' q', bs_R a_reached a_queue q m re' qu' q' → post (f_opOut, f_opBranch, f_opJump, f_cap, f_vars, f_size, f_sealed, (nI q'), f_workLen, a_code, a_subject, a_left, a_right, a_dest, a_uses, a_entryCount, a_need, a_sched, a_schedLen, a_held, a_heldLen, re', qu', a_work, a_picked, a_inputs, a_store, a_outs, a_outLen, a_counts)) : wpX_reach post (f_opOut, f_opBranch, f_opJump, f_cap, f_vars, f_size, f_sealed, (nI q), f_workLen, a_code, a_subject, a_left, a_right, a_dest, a_uses, a_entryCount, a_need, a_sched, a_schedLen, a_held, a_heldLen, a_reached, a_queue, a_work, a_picked, a_inputs, a_store, a_outs, a_outLen, a_counts) (nI m) := by
  have hi : vp_in (nI m) 20 := vp_in_nI hm (by omega)
  refine And.intro hi (br_c (fun h => And.intro hi (nm_e ?_)) (fun h => K _ _ _ (Or.inl ⟨?_, rfl, rfl, rfl⟩)))
  · rw [nI_clamp (by omega)] at h
    have hq' := hq h
    refine And.intro (vp_in_nI hq' (by omega)) (nm_e (nm_r (nI_1 q) ?_))
    rw [nI_clamp (by omega), nI_clamp (by omega), bb_n1]
    exact K _ _ _ (Or.inr ⟨h, rfl, rfl, rfl⟩)
  · rw [nI_clamp (by omega)] at h; exact h
theorem qx_edgeBlock {post : Int32 → Prop} {n k : Nat} (K : post (nI (20 + 2 * n + k))) : wpX_edgeBlock post (f_opOut, f_opBranch, f_opJump, f_cap, f_vars, f_size, f_sealed, f_queued, f_workLen, a_code, a_subject, a_left, a_right, a_dest, a_uses, a_entryCount, a_need, a_sched, a_schedLen, a_held, a_heldLen, a_reached, a_queue, a_work, a_picked, a_inputs, a_store, a_outs, a_outLen, a_counts) (nI n) (nI k) := by
  have e : (20 + (2 * nI n)) + nI k = nI (20 + 2 * n + k) := by
    rw [show (2 : Int32) = nI 2 from rfl, show (20 : Int32) = nI 20 from rfl, pk_mul, nI_add, nI_add]
  show post ((20 + (2 * nI n)) + nI k)
  rw [e]; exact K
theorem qx_pe47 {post : SX → Prop} {b m : Nat} {l : List Nat} {s0 z0 : Nat → Int32} (hb : b < 60) (hl : l.length ≤ 20) (hw : sq_R a_work 0 l)
    (K : ∀ s' z', sq_B s' z' b l → sq_O s0 z0 s' z' b → wX_planEdge_83 post (nI m) f_opOut f_opBranch f_opJump f_cap f_vars f_size f_sealed f_queued (nI l.length) a_code a_subject a_left a_right a_dest a_uses a_entryCount a_need s' z' a_held a_heldLen a_reached a_queue a_work a_picked a_inputs a_store a_outs a_outLen a_counts) :
    ∀ (d i : Nat) (s z : Nat → Int32), i + d = l.length → sq_B s z b (l.take i) → sq_O s0 z0 s z b →
    wX_planEdge_47 post (nI m) (nI b) (d + 1) (nI i) f_opOut f_opBranch f_opJump f_cap f_vars f_size f_sealed f_queued (nI l.length) a_code a_subject a_left a_right a_dest a_uses a_entryCount a_need s z a_held a_heldLen a_reached a_queue a_work a_picked a_inputs a_store a_outs a_outLen a_counts := by
  intro d
  induction d with
  | zero =>
    intro i s z hi hB hO
    have e : i = l.length := by omega
    rw [e, List.take_length] at hB
    exact br_t (nI_le (by omega) (by omega)) (K s z hB hO)
  | succ d ih =>
    intro i s z hi hB hO
    have hwi : a_work i = nI (l.getD i 0) := by
      have := hw i (by omega)
      rw [Nat.zero_add] at this; exact this
    refine br_f (nI_ge (by omega) (by omega)) (And.intro (vp_in_nI (by omega) (by omega)) ?_)
    rw [nI_clamp (by omega), hwi]
    refine qx_schedule hb hB (by rw [List.length_take]; omega) (fun s' z' h1 h2 => nm_r (nI_1 i) (ih (i + 1) s' z' (by omega) ?_ (sq_Ot hO h2)))
    rw [sq_tk l i (by omega)]; exact h1
theorem qx_planEdge {post : SX → Prop} {n k q : Nat} (ok : pg_ok P) (pX : pg_X P a_code a_subject a_left a_right a_dest a_uses) (hN : ∀ n w, n < pg_sz P → w < 32 → (bt (a_need n) w = true ↔ nd_N P n w)) (hE : ∀ m, m < pg_sz P → a_entryCount m = nI (pg_en P m))
    (I : bs_I P A pn dn a_sched a_schedLen a_held a_heldLen a_reached a_queue q) (hp : pn n) (hk : k < pg_ec P n) (hd : ¬ dn n k)
    (K : ∀ A' sc' sl' he' hl' re' qu' q' wl' w' p', bs_I P A' pn (fun a b => dn a b ∨ (a = n ∧ b = k)) sc' sl' he' hl' re' qu' q' → bs_X a_reached a_queue q re' qu' q' → post (f_opOut, f_opBranch, f_opJump, f_cap, f_vars, (nI (pg_sz P)), f_sealed, (nI q'), wl', a_code, a_subject, a_left, a_right, a_dest, a_uses, a_entryCount, a_need, sc', sl', he', hl', re', qu', w', p', a_inputs, a_store, a_outs, a_outLen, a_counts)) :
    wpX_planEdge post (f_opOut, f_opBranch, f_opJump, f_cap, f_vars, (nI (pg_sz P)), f_sealed, (nI q), f_workLen, a_code, a_subject, a_left, a_right, a_dest, a_uses, a_entryCount, a_need, a_sched, a_schedLen, a_held, a_heldLen, a_reached, a_queue, a_work, a_picked, a_inputs, a_store, a_outs, a_outLen, a_counts) (nI n) (nI k) := by
  have h20 := pg_sz20 ok
  have hec := pg_ec12 (P := P) n
  obtain ⟨hn, hrn, _, hDn⟩ := I.2.2.2.2.1 n hp
  have hV := sq_DDV (I.2.1 n hn hrn).1 hn
  unfold wpX_planEdge
  refine qx_edgeTarget ok pX hn (by omega) ?_
  have ht := pg_te20 ok (k := k) hn
  obtain ⟨m, hm⟩ : ∃ m, pg_te P n k = m := ⟨_, rfl⟩
  rw [hm] at ht ⊢
  have hroom : m < pg_sz P → a_reached m = 0 → q < 20 := fun h z => bs_room I.1 (by omega) z
  refine pk_lt m (pg_sz P) (fun hms => ?_) (fun hms => ?_)
  · refine qx_loadHeld (by omega) hDn (fun w1 hw1 => ?_)
    refine And.intro (vp_in_nI (by omega) (by omega)) (pk_lt (pg_en P m) 2 (fun h2 => ?_) (fun h2 => ?_) (by rw [nI_clamp (by omega)]; exact hE m hms) rfl (by have := pg_en41 ok m; omega))
    · refine qx_saveHeld (by omega) hDn.2.2 hw1 (fun h' z' hB hO => ?_)
      dsimp only
      unfold wX_planEdge_83
      exact qx_reach (by omega) (hroom hms) (fun re' qu' q' r => K _ _ _ h' z' re' qu' q' _ _ _ (bs_pass ok I hp hk hd hm hms (by omega) hB hO r) (bs_RX r))
    · refine qx_sift ok pX hN hms hV hDn.2.2 hw1 (fun w2 p2 hw2 => ?_)
      have hl2 := sq_sl (P := P) (m := m) (l := sq_DD P n (A n))
      have hl1 := hDn.2.2
      refine qx_edgeBlock ⟨(sq_s P m (sq_DD P n (A n))).length + 1, qx_pe47 (s0 := a_sched) (z0 := a_schedLen) (by omega) (by omega) hw2 (fun s' z' hB hO => ?_) _ 0 a_sched a_schedLen (by omega) (I.2.2.2.2.2.2.2.1 n k hn (by omega) hd) sq_O0⟩
      unfold wX_planEdge_83
      exact qx_reach (by omega) (hroom hms) (fun re' qu' q' r => K _ s' z' _ _ re' qu' q' _ _ _ (bs_meet ok I hp hk hd hm hms h2 hB hO r) (bs_RX r))
  · exact K _ _ _ _ _ _ _ _ _ _ _ (bs_out I hp hk (by rw [hm]; omega)) bs_X0
theorem qx_pn70 {post : SX → Prop} {n q0 : Nat} {re0 qu0 : Nat → Int32} {dn0 : Nat → Nat → Prop} (ok : pg_ok P) (pX : pg_X P a_code a_subject a_left a_right a_dest a_uses) (hN : ∀ n w, n < pg_sz P → w < 32 → (bt (a_need n) w = true ↔ nd_N P n w)) (hE : ∀ m, m < pg_sz P → a_entryCount m = nI (pg_en P m)) (hp : pn n)
    (K : ∀ A' dn' sc' sl' he' hl' re' qu' q' wl' w' p', bs_I P A' pn dn' sc' sl' he' hl' re' qu' q' → bs_X re0 qu0 q0 re' qu' q' → (∀ k, k < pg_ec P n → dn' n k) → (∀ a b, dn0 a b → dn' a b) → post (f_opOut, f_opBranch, f_opJump, f_cap, f_vars, (nI (pg_sz P)), f_sealed, (nI q'), wl', a_code, a_subject, a_left, a_right, a_dest, a_uses, a_entryCount, a_need, sc', sl', he', hl', re', qu', w', p', a_inputs, a_store, a_outs, a_outLen, a_counts)) :
    ∀ (d k : Nat) (A : Nat → List Nat) (dn : Nat → Nat → Prop) (sc sl he hl re qu : Nat → Int32) (q : Nat) (wl : Int32) (w p : Nat → Int32), k + d = pg_ec P n → bs_I P A pn dn sc sl he hl re qu q → bs_X re0 qu0 q0 re qu q → (∀ j, j < k → dn n j) → (∀ j, k ≤ j → ¬ dn n j) → (∀ a b, dn0 a b → dn a b) →
    wX_planNode_70 post (nI n) (nI (pg_ec P n)) (d + 1) (nI k) f_opOut f_opBranch f_opJump f_cap f_vars (nI (pg_sz P)) f_sealed (nI q) wl a_code a_subject a_left a_right a_dest a_uses a_entryCount a_need sc sl he hl re qu w p a_inputs a_store a_outs a_outLen a_counts := by
  have hec := pg_ec12 (P := P) n
  intro d
  induction d with
  | zero =>
    intro k A dn sc sl he hl re qu q wl w p hk I hX h1 h2 h3
    exact br_t (nI_le (by omega) (by omega)) (K A dn sc sl he hl re qu q wl w p I hX (fun j hj => h1 j (by omega)) h3)
  | succ d ih =>
    intro k A dn sc sl he hl re qu q wl w p hk I hX h1 h2 h3
    refine br_f (nI_ge (by omega) (by omega)) (qx_planEdge ok pX hN hE I hp (by omega) (h2 k (Nat.le_refl k)) (fun A' sc' sl' he' hl' re' qu' q' wl' w' p' I' hX' => nm_r (nI_1 k) (ih (k + 1) A' _ sc' sl' he' hl' re' qu' q' wl' w' p' (by omega) I' (bs_Xt hX hX') ?_ ?_ ?_)))
    · intro j hj
      by_cases e : j = k
      · exact Or.inr ⟨rfl, e⟩
      · exact Or.inl (h1 j (by omega))
    · rintro j hj (z | ⟨_, z⟩)
      · exact h2 j (by omega) z
      · omega
    · intro a b z; exact Or.inl (h3 a b z)
theorem qx_pn57 {post : SX → Prop} {n q : Nat} {sc0 sl0 : Nat → Int32} (ok : pg_ok P) (pX : pg_X P a_code a_subject a_left a_right a_dest a_uses) (hN : ∀ n w, n < pg_sz P → w < 32 → (bt (a_need n) w = true ↔ nd_N P n w)) (hE : ∀ m, m < pg_sz P → a_entryCount m = nI (pg_en P m))
    (I : bs_I P A pn dn sc0 sl0 a_held a_heldLen a_reached a_queue q) (hn : n < pg_sz P) (hr : a_reached n ≠ 0) (hp : ¬ pn n) (hB : sq_B a_sched a_schedLen n (sq_PL P n (A n))) (hO : sq_O sc0 sl0 a_sched a_schedLen n) (hw : sq_R a_work 0 (sq_DD P n (A n))) (hl : (sq_DD P n (A n)).length ≤ 20)
    (K : ∀ A' dn' sc' sl' he' hl' re' qu' q' wl' w' p', bs_I P A' (fun x => pn x ∨ x = n) dn' sc' sl' he' hl' re' qu' q' → bs_X a_reached a_queue q re' qu' q' → (∀ k, k < pg_ec P n → dn' n k) → (∀ a b, dn a b → dn' a b) → post (f_opOut, f_opBranch, f_opJump, f_cap, f_vars, (nI (pg_sz P)), f_sealed, (nI q'), wl', a_code, a_subject, a_left, a_right, a_dest, a_uses, a_entryCount, a_need, sc', sl', he', hl', re', qu', w', p', a_inputs, a_store, a_outs, a_outLen, a_counts)) :
    wX_planNode_57 post (nI n) f_opOut f_opBranch f_opJump f_cap f_vars (nI (pg_sz P)) f_sealed (nI q) (nI (sq_DD P n (A n)).length) a_code a_subject a_left a_right a_dest a_uses a_entryCount a_need a_sched a_schedLen a_held a_heldLen a_reached a_queue a_work a_picked a_inputs a_store a_outs a_outLen a_counts := by
  have h20 := pg_sz20 ok
  unfold wX_planNode_57
  refine qx_saveHeld (by omega) hl hw (fun h' z' hB' hO' => ?_)
  have I' := bs_own ok I hn hr hp hB hO hB' hO'
  refine qx_edgeCount ok pX hn ⟨pg_ec P n + 1, qx_pn70 (re0 := a_reached) (qu0 := a_queue) (q0 := q) (dn0 := dn) (pn := fun x => pn x ∨ x = n) ok pX hN hE (Or.inr rfl) K (pg_ec P n) 0 A dn _ _ _ _ _ _ q _ _ _ (by omega) I' bs_X0 (fun j hj => absurd hj (Nat.not_lt_zero j)) (fun j _ z => hp (I.2.2.2.2.2.2.1 n j z).1) (fun _ _ z => z)⟩
theorem qx_planNode {post : SX → Prop} {n q : Nat} (ok : pg_ok P) (pX : pg_X P a_code a_subject a_left a_right a_dest a_uses) (hN : ∀ n w, n < pg_sz P → w < 32 → (bt (a_need n) w = true ↔ nd_N P n w)) (hE : ∀ m, m < pg_sz P → a_entryCount m = nI (pg_en P m))
    (I : bs_I P A pn dn a_sched a_schedLen a_held a_heldLen a_reached a_queue q) (hn : n < pg_sz P) (hr : a_reached n ≠ 0) (hp : ¬ pn n)
    (K : ∀ A' dn' sc' sl' he' hl' re' qu' q' wl' w' p', bs_I P A' (fun x => pn x ∨ x = n) dn' sc' sl' he' hl' re' qu' q' → bs_X a_reached a_queue q re' qu' q' → (∀ k, k < pg_ec P n → dn' n k) → (∀ a b, dn a b → dn' a b) → post (f_opOut, f_opBranch, f_opJump, f_cap, f_vars, (nI (pg_sz P)), f_sealed, (nI q'), wl', a_code, a_subject, a_left, a_right, a_dest, a_uses, a_entryCount, a_need, sc', sl', he', hl', re', qu', w', p', a_inputs, a_store, a_outs, a_outLen, a_counts)) :
    wpX_planNode post (f_opOut, f_opBranch, f_opJump, f_cap, f_vars, (nI (pg_sz P)), f_sealed, (nI q), f_workLen, a_code, a_subject, a_left, a_right, a_dest, a_uses, a_entryCount, a_need, a_sched, a_schedLen, a_held, a_heldLen, a_reached, a_queue, a_work, a_picked, a_inputs, a_store, a_outs, a_outLen, a_counts) (nI n) := by
  have h20 := pg_sz20 ok
  have hkd := pg_kd4 ok hn
  have hc : a_code (nI n).toNatClampNeg = nI (pg_cd P n) := by rw [nI_clamp (by omega)]; exact (pX n hn).1
  have h8 := pg_cd8 ok hn
  obtain ⟨hB0, hH⟩ := I.2.2.2.2.2.1 n hn hp
  have hV := (I.2.1 n hn hr).1
  have hlen : (A n).length ≤ 19 := by
    obtain ⟨j, hj, e⟩ := I.1.2.1 n hn hr
    have := I.2.2.2.2.2.2.2.2 j n hj hn e
    have := bs_q20 I.1
    omega
  unfold wpX_planNode
  refine qx_loadHeld (by omega) hH (fun w1 hw1 => ?_)
  refine qx_isSet ok pX hn (fun h0 => br_f bb_10 ?_) (fun h0 => br_t rfl (And.intro (vp_in_nI (by omega) (by omega)) (pk_eq (pg_cd P n) 7 (fun h7 => ?_) (fun h7 => ?_) hc)))
  · have eD : sq_DD P n (A n) = A n ++ [n] := if_pos h0
    have eP : sq_PL P n (A n) = [] := if_neg (by omega)
    have hlD : (sq_DD P n (A n)).length = (A n).length + 1 := by rw [eD, sq_len]
    refine And.intro (vp_in_nI (by omega) (by omega)) (nm_r (e' := upd w1 (A n).length (nI n)) (by rw [nI_clamp (by omega)]) (nm_r (e' := nI (sq_DD P n (A n)).length) (by rw [nI_1, hlD]) ?_))
    refine qx_pn57 ok pX hN hE I hn hr hp (by rw [eP]; exact hB0) sq_O0 ?_ (by omega) K
    rw [eD]
    refine sq_Ra ?_ (by rw [Nat.zero_add, pk_us])
    intro i hi
    rw [pk_un (by omega)]; exact hw1 i hi
  · have h3 := (pg_cdk (k := 3) ok hn (by omega)).mp h7
    have eD : sq_DD P n (A n) = A n := by unfold sq_DD; rw [if_neg h0, if_pos h3]
    have eP : sq_PL P n (A n) = [] := if_neg (by omega)
    have H := qx_pn57 (f_opOut := f_opOut) (f_opBranch := f_opBranch) (f_opJump := f_opJump) (f_cap := f_cap) (f_vars := f_vars) (f_sealed := f_sealed) (a_work := w1) (a_picked := a_picked) ok pX hN hE I hn hr hp (by rw [eP]; exact hB0) sq_O0 (by rw [eD]; exact hw1) (by rw [eD]; omega) K
    rw [eD] at H
    exact H
  · have h3 : pg_kd P n ≠ 3 := fun z => h7 ((pg_cdk (k := 3) ok hn (by omega)).mpr z)
    have eD : sq_DD P n (A n) = sq_pr P (pg_nm P n) (sq_s P n (A n)) := by unfold sq_DD; rw [if_neg h0, if_neg h3]
    have eP : sq_PL P n (A n) = sq_pl P (pg_nm P n) (sq_s P n (A n)) := if_pos (by omega)
    have hl1 := sq_sl (P := P) (m := n) (l := A n)
    have hl2 := sq_prl (P := P) (v := pg_nm P n) (l := sq_s P n (A n))
    refine qx_sift ok pX hN hn hV (by omega) hw1 (fun w2 p2 hw2 => ?_)
    refine qx_pull ok pX hn (sq_sV hV) (by omega) hw2 hB0 (fun w3 p3 s' z' hw3 hB' hO' => ?_)
    have H := qx_pn57 (f_opOut := f_opOut) (f_opBranch := f_opBranch) (f_opJump := f_opJump) (f_cap := f_cap) (f_vars := f_vars) (f_sealed := f_sealed) (a_work := w3) (a_picked := p3) ok pX hN hE I hn hr hp (by rw [eP]; exact hB') hO' (by rw [eD]; exact hw3) (by rw [eD]; omega) K
    rw [eD] at H
    exact H
theorem qx_bs68 {post : SX → Prop} (ok : pg_ok P) (pX : pg_X P a_code a_subject a_left a_right a_dest a_uses) (hN : ∀ n w, n < pg_sz P → w < 32 → (bt (a_need n) w = true ↔ nd_N P n w)) (hE : ∀ m, m < pg_sz P → a_entryCount m = nI (pg_en P m))
    (K : ∀ sc' sl' he' hl' re' qu' fq' wl' w' p', rl_C P sc' sl' → post (f_opOut, f_opBranch, f_opJump, f_cap, f_vars, (nI (pg_sz P)), f_sealed, fq', wl', a_code, a_subject, a_left, a_right, a_dest, a_uses, a_entryCount, a_need, sc', sl', he', hl', re', qu', w', p', a_inputs, a_store, a_outs, a_outLen, a_counts)) :
    ∀ (d i : Nat) (A : Nat → List Nat) (pn : Nat → Prop) (dn : Nat → Nat → Prop) (sc sl he hl re qu : Nat → Int32) (q : Nat) (wl : Int32) (w p : Nat → Int32), i + d = 20 → i ≤ q → bs_I P A pn dn sc sl he hl re qu q → (0 < pg_sz P → re 0 ≠ 0) → (∀ j x, j < i → x < pg_sz P → qu j = nI x → pn x ∧ ∀ k, k < pg_ec P x → dn x k) → (∀ x, pn x → ∃ j, j < i ∧ qu j = nI x) →
    wX_buildSchedule_68 post (d + 1) (nI i) f_opOut f_opBranch f_opJump f_cap f_vars (nI (pg_sz P)) f_sealed (nI q) wl a_code a_subject a_left a_right a_dest a_uses a_entryCount a_need sc sl he hl re qu w p a_inputs a_store a_outs a_outLen a_counts := by
  have h20 := pg_sz20 ok
  have fin : ∀ (i : Nat) (A : Nat → List Nat) (pn : Nat → Prop) (dn : Nat → Nat → Prop) (sc sl he hl re qu : Nat → Int32) (q : Nat), q ≤ i → bs_I P A pn dn sc sl he hl re qu q → (0 < pg_sz P → re 0 ≠ 0) → (∀ j x, j < i → x < pg_sz P → qu j = nI x → pn x ∧ ∀ k, k < pg_ec P x → dn x k) → rl_C P sc sl := by
    intro i A pn dn sc sl he hl re qu q hq I h0 h1
    refine bs_fin ok I h0 (fun n hn hr => ?_)
    obtain ⟨j, hj, e⟩ := I.1.2.1 n hn hr
    exact h1 j n (by omega) hn e
  intro d
  induction d with
  | zero =>
    intro i A pn dn sc sl he hl re qu q wl w p hi hiq I h0 h1 h2
    have hq := bs_q20 I.1
    exact br_t (nI_le (a := 20) (by omega) (by omega)) (K sc sl he hl re qu _ wl w p (fin i A pn dn sc sl he hl re qu q (by omega) I h0 h1))
  | succ d ih =>
    intro i A pn dn sc sl he hl re qu q wl w p hi hiq I h0 h1 h2
    have hq := bs_q20 I.1
    refine br_f (nI_ge (b := 20) (by omega) (by omega)) (pk_le q i (fun hle => K sc sl he hl re qu _ wl w p (fin i A pn dn sc sl he hl re qu q hle I h0 h1)) (fun hlt => And.intro (vp_in_nI (by omega) (by omega)) ?_))
    obtain ⟨n, hn, e, hr⟩ := I.1.1 i hlt
    rw [nI_clamp (by omega), e]
    have hp : ¬ pn n := by
      intro z
      obtain ⟨j, hj, e'⟩ := h2 n z
      have := I.1.2.2.1 i j n hlt (by omega) (by omega) e e'
      omega
    refine qx_planNode ok pX hN hE I hn hr hp (fun A' dn' sc' sl' he' hl' re' qu' q' wl' w' p' I' hX hd hm => nm_r (nI_1 i) (ih (i + 1) A' _ dn' sc' sl' he' hl' re' qu' q' wl' w' p' (by omega) (by have := hX.1; omega) I' (fun z => hX.2.2 0 (h0 z)) ?_ ?_))
    · intro j x hj hx e'
      by_cases ej : j = i
      · rw [ej, hX.2.1 i hlt, e] at e'
        have : n = x := nb_eq e' (by omega) (by omega)
        subst this
        exact ⟨Or.inr rfl, hd⟩
      · rw [hX.2.1 j (by omega)] at e'
        obtain ⟨a, b⟩ := h1 j x (by omega) hx e'
        exact ⟨Or.inl a, fun k hk => hm x k (b k hk)⟩
    · rintro x (z | z)
      · obtain ⟨j, hj, e'⟩ := h2 x z
        exact ⟨j, by omega, by rw [hX.2.1 j (by omega)]; exact e'⟩
      · exact ⟨i, by omega, by rw [hX.2.1 i hlt, e, z]⟩
theorem qx_bs23 {post : SX → Prop} (ok : pg_ok P) (pX : pg_X P a_code a_subject a_left a_right a_dest a_uses) (hN : ∀ n w, n < pg_sz P → w < 32 → (bt (a_need n) w = true ↔ nd_N P n w)) (hE : ∀ m, m < pg_sz P → a_entryCount m = nI (pg_en P m)) (hsl : ∀ b, b < 60 → a_schedLen b = 0)
    (K : ∀ sc' sl' he' hl' re' qu' fq' wl' w' p', rl_C P sc' sl' → post (f_opOut, f_opBranch, f_opJump, f_cap, f_vars, (nI (pg_sz P)), f_sealed, fq', wl', a_code, a_subject, a_left, a_right, a_dest, a_uses, a_entryCount, a_need, sc', sl', he', hl', re', qu', w', p', a_inputs, a_store, a_outs, a_outLen, a_counts)) :
    ∀ (d i : Nat) (hl re : Nat → Int32), i + d = 20 → (∀ m, m < i → hl m = 0) → (∀ m, m < i → re m = 0) →
    wX_buildSchedule_23 post f_opOut f_opBranch f_opJump f_cap f_vars (nI (pg_sz P)) f_sealed f_queued f_workLen (d + 1) (nI i) a_code a_subject a_left a_right a_dest a_uses a_entryCount a_need a_sched a_schedLen a_held hl re a_queue a_work a_picked a_inputs a_store a_outs a_outLen a_counts := by
  have h20 := pg_sz20 ok
  intro d
  induction d with
  | zero =>
    intro i hl re hi hh hr
    have hh' : ∀ m, m < 20 → hl m = 0 := fun m hm => hh m (by omega)
    have hr' : ∀ m, m < 20 → re m = 0 := fun m hm => hr m (by omega)
    refine br_t (nI_le (a := 20) (by omega) (by omega)) (pk_le (pg_sz P) 0 (fun h => ⟨21, ?_⟩) (fun h => ?_))
    · exact qx_bs68 ok pX hN hE K 20 0 (fun _ => []) (fun _ => False) (fun _ _ => False) _ _ _ _ _ _ 0 _ _ _ (by omega) (by omega) (bs_ini ok hsl hh' hr') (fun z => by omega) (fun j _ hj => absurd hj (Nat.not_lt_zero j)) (fun x z => absurd z id)
    · refine qx_reach (q := 0) (m := 0) (by omega) (fun _ => by omega) (fun re' qu' q' r => ⟨21, ?_⟩)
      exact qx_bs68 ok pX hN hE K 20 0 (fun _ => []) (fun _ => False) (fun _ _ => False) _ _ _ _ _ _ q' _ _ _ (by omega) (by omega) (bs_ini1 ok h hsl hh' hr' r) (fun _ => bs_Rm r) (fun j _ hj => absurd hj (Nat.not_lt_zero j)) (fun x z => absurd z id)
  | succ d ih =>
    intro i hl re hi hh hr
    refine br_f (nI_ge (b := 20) (by omega) (by omega)) (And.intro (vp_in_nI (by omega) (by omega)) (nm_e (And.intro (vp_in_nI (by omega) (by omega)) (nm_e (nm_r (nI_1 i) (ih (i + 1) _ _ (by omega) ?_ ?_))))))
    · intro m hm
      rw [nI_clamp (by omega)]
      by_cases e : m = i
      · rw [e, pk_us]
      · rw [pk_un e]; exact hh m (by omega)
    · intro m hm
      rw [nI_clamp (by omega), bb_n0]
      by_cases e : m = i
      · rw [e, pk_us]
      · rw [pk_un e]; exact hr m (by omega)
theorem qx_bs2 {post : SX → Prop} (ok : pg_ok P) (pX : pg_X P a_code a_subject a_left a_right a_dest a_uses) (hN : ∀ n w, n < pg_sz P → w < 32 → (bt (a_need n) w = true ↔ nd_N P n w)) (hE : ∀ m, m < pg_sz P → a_entryCount m = nI (pg_en P m))
    (K : ∀ sc' sl' he' hl' re' qu' fq' wl' w' p', rl_C P sc' sl' → post (f_opOut, f_opBranch, f_opJump, f_cap, f_vars, (nI (pg_sz P)), f_sealed, fq', wl', a_code, a_subject, a_left, a_right, a_dest, a_uses, a_entryCount, a_need, sc', sl', he', hl', re', qu', w', p', a_inputs, a_store, a_outs, a_outLen, a_counts)) :
    ∀ (d i : Nat) (sl : Nat → Int32), i + d = 60 → (∀ m, m < i → sl m = 0) →
    wX_buildSchedule_2 post f_opOut f_opBranch f_opJump f_cap f_vars (nI (pg_sz P)) f_sealed f_queued f_workLen (d + 1) (nI i) a_code a_subject a_left a_right a_dest a_uses a_entryCount a_need a_sched sl a_held a_heldLen a_reached a_queue a_work a_picked a_inputs a_store a_outs a_outLen a_counts := by
  intro d
  induction d with
  | zero =>
    intro i sl hi hs
    exact br_t (nI_le (a := 60) (by omega) (by omega)) ⟨21, qx_bs23 ok pX hN hE (fun b hb => hs b (by omega)) K 20 0 _ _ (by omega) (fun m hm => absurd hm (Nat.not_lt_zero m)) (fun m hm => absurd hm (Nat.not_lt_zero m))⟩
  | succ d ih =>
    intro i sl hi hs
    refine br_f (nI_ge (b := 60) (by omega) (by omega)) (And.intro (vp_in_nI (by omega) (by omega)) (nm_e (nm_r (nI_1 i) (ih (i + 1) _ (by omega) ?_))))
    intro m hm
    rw [nI_clamp (by omega)]
    by_cases e : m = i
    · rw [e, pk_us]
    · rw [pk_un e]; exact hs m (by omega)
/-- seal, from an open program -/
theorem qx_seal {post : Int32 → SX → Prop} (ok : pg_ok P) (pX : pg_X P a_code a_subject a_left a_right a_dest a_uses)
    (K : ∀ E' nd' sc' sl' he' hl' re' qu' fq' wl' w' p', (∀ m, m < pg_sz P → E' m = nI (pg_en P m)) → (∀ n w, n < pg_sz P → w < 32 → (bt (nd' n) w = true ↔ nd_N P n w)) → rl_C P sc' sl' → post (nI (pg_sz P)) (f_opOut, f_opBranch, f_opJump, f_cap, f_vars, (nI (pg_sz P)), 1, fq', wl', a_code, a_subject, a_left, a_right, a_dest, a_uses, E', nd', sc', sl', he', hl', re', qu', w', p', a_inputs, a_store, a_outs, a_outLen, a_counts)) :
    wpX_seal post (f_opOut, f_opBranch, f_opJump, f_cap, f_vars, (nI (pg_sz P)), 0, f_queued, f_workLen, a_code, a_subject, a_left, a_right, a_dest, a_uses, a_entryCount, a_need, a_sched, a_schedLen, a_held, a_heldLen, a_reached, a_queue, a_work, a_picked, a_inputs, a_store, a_outs, a_outLen, a_counts) := by
  refine br_t rfl (qx_countEntries ok pX (fun E' hE => ?_))
  refine qx_findNeeded ok pX (fun nd' hN => ?_)
  refine ⟨61, qx_bs2 ok pX hN hE (fun sc' sl' he' hl' re' qu' fq' wl' w' p' hC => ?_) 60 0 _ (by omega) (fun m hm => absurd hm (Nat.not_lt_zero m))⟩
  exact K E' nd' sc' sl' he' hl' re' qu' fq' wl' w' p' hE hN hC
end
end
section
/-! ===== Y's search for a use ===== -/
def yn_Q (P : pg_T) (T : Prop) (se fa : Nat → Int32) (c : Nat) : Prop := (∀ x, x < 120 → se x ≠ 0 → ∃ j, j < c ∧ fa j = nI x) ∧ (∀ j, j < c → ∃ x, x < 120 ∧ fa j = nI x ∧ se x ≠ 0 ∧ x / 6 < pg_sz P ∧ x % 6 < pg_vs P ∧ (nd_N P (x / 6) (x % 6) → T)) ∧ cn_n (cn_b se) 120 = c
def yn_X (se fa : Nat → Int32) (c : Nat) (se' fa' : Nat → Int32) (c' : Nat) : Prop := c ≤ c' ∧ (∀ j, j < c → fa' j = fa j) ∧ ∀ x, se x ≠ 0 → se' x ≠ 0
section
variable {P : pg_T} {T : Prop} {se fa se' fa' : Nat → Int32} {c c' : Nat}
theorem yn_X0 : yn_X se fa c se fa c := ⟨Nat.le_refl _, fun _ _ => rfl, fun _ h => h⟩
theorem yn_Xt {se'' fa'' : Nat → Int32} {c'' : Nat} (h : yn_X se fa c se' fa' c') (h' : yn_X se' fa' c' se'' fa'' c'') : yn_X se fa c se'' fa'' c'' :=
  ⟨Nat.le_trans h.1 h'.1, fun j hj => (h'.2.1 j (Nat.lt_of_lt_of_le hj h.1)).trans (h.2.1 j hj), fun x hx => h'.2.2 x (h.2.2 x hx)⟩
theorem yn_c120 (h : yn_Q P T se fa c) : c ≤ 120 := by rw [← h.2.2]; exact cn_le _ 120
theorem yn_add {n w : Nat} (ok : pg_ok P) (hQ : yn_Q P T se fa c) (hn : n < pg_sz P) (hw : w < pg_vs P) (hT : nd_N P n w → T) (h0 : se (n * 6 + w) = 0) : c < 120 ∧ yn_Q P T (upd se (n * 6 + w) 1) (upd fa c (nI (n * 6 + w))) (c + 1) ∧ yn_X se fa c (upd se (n * 6 + w) 1) (upd fa c (nI (n * 6 + w))) (c + 1) := by
  have h20 := pg_sz20 ok
  have h6 := pg_vs6 ok
  have e1 : (n * 6 + w) / 6 = n := by omega
  have e2 : (n * 6 + w) % 6 = w := by omega
  have hre : ∀ x, se x ≠ 0 → upd se (n * 6 + w) 1 x ≠ 0 := by
    intro x hx
    by_cases e : x = n * 6 + w
    · rw [e, pk_us]; exact bb_10
    · rw [pk_un e]; exact hx
  refine ⟨?_, ⟨?_, ?_, ?_⟩, by omega, fun j hj => pk_un (by omega), hre⟩
  · rw [← hQ.2.2]; exact cn_room (x := n * 6 + w) (by omega) (cn_bf.mpr h0)
  · intro x hx hs
    by_cases e : x = n * 6 + w
    · exact ⟨c, by omega, by rw [pk_us, e]⟩
    · rw [pk_un e] at hs
      obtain ⟨j, hj, f⟩ := hQ.1 x hx hs
      exact ⟨j, by omega, by rw [pk_un (by omega)]; exact f⟩
  · intro j hj
    by_cases e : j = c
    · refine ⟨n * 6 + w, by omega, by rw [e, pk_us], by rw [pk_us]; exact bb_10, by omega, by omega, ?_⟩
      rw [e1, e2]; exact hT
    · obtain ⟨x, a, b, d, f⟩ := hQ.2.1 j (by omega)
      exact ⟨x, a, by rw [pk_un e]; exact b, hre x d, f⟩
  · rw [← hQ.2.2]
    refine cn_add (x := n * 6 + w) (cn_bf.mpr h0) (cn_bt.mpr (by rw [pk_us]; exact bb_10)) 120 (by omega) ?_
    intro i _ e
    unfold cn_b
    rw [pk_un e]
/-- all met, none a use: not needed -/
theorem yn_end {node v i : Nat} (ok : pg_ok P) (hv : v < pg_vs P) (hQ : yn_Q P T se fa c) (hs : se (node * 6 + v) ≠ 0) (hc : c ≤ i) (hd : ∀ j, j < i → ∀ x, x < 120 → fa j = nI x → ¬ nd_us P (x / 6) (x % 6) ∧ ∀ n' w', nd_pr P (x / 6) (x % 6) n' w' → se (n' * 6 + w') ≠ 0) : ¬ nd_N P node v := by
  have h20 := pg_sz20 ok
  have h6 := pg_vs6 ok
  intro hN
  have key : v < pg_vs P → se (node * 6 + v) = 0 := by
    refine hN (fun n w => w < pg_vs P → se (n * 6 + w) = 0) ?_ ?_
    · intro n w hn u hw
      apply Classical.byContradiction
      intro z
      obtain ⟨j, hj, f⟩ := hQ.1 (n * 6 + w) (by omega) z
      have := (hd j (by omega) _ (by omega) f).1
      rw [show (n * 6 + w) / 6 = n by omega, show (n * 6 + w) % 6 = w by omega] at this
      exact this u
    · intro n w n' w' hn p s hw
      apply Classical.byContradiction
      intro z
      obtain ⟨j, hj, f⟩ := hQ.1 (n * 6 + w) (by omega) z
      have := (hd j (by omega) _ (by omega) f).2
      rw [show (n * 6 + w) / 6 = n by omega, show (n * 6 + w) % 6 = w by omega] at this
      refine this n' w' p (s ?_)
      rcases p.2 with q | q
      · rw [q.2.1]; exact hw
      · rw [q.2.2]; exact pg_nmv ok hn
  exact hs (key hv)
end
section
variable {g_cap g_vars g_size g_sealed g_waiting g_factCount : Int32} {b_kind b_name b_opOf b_left b_right b_goal b_input b_store b_outs b_outCount b_counts b_list b_leaving b_live b_seen b_facts : Nat → Int32}
variable {P : pg_T} {T : Prop}
theorem qy_reads {post : Int32 → Prop} {n w : Nat} (ok : pg_ok P) (pY : pg_Y P b_kind b_name b_opOf b_left b_right b_goal) (hn : n < pg_sz P) (hw : w < pg_vs P) (K1 : pg_rd P n w → post 1) (K0 : ¬ pg_rd P n w → post 0) : wpY_reads post (g_cap, g_vars, g_size, g_sealed, g_waiting, g_factCount, b_kind, b_name, b_opOf, b_left, b_right, b_goal, b_input, b_store, b_outs, b_outCount, b_counts, b_list, b_leaving, b_live, b_seen, b_facts) (nI n) (nI w) := by
  have h20 := pg_sz20 ok
  have h6 := pg_vs6 ok
  have hi : vp_in (nI n) 20 := vp_in_nI (by omega) (by omega)
  obtain ⟨y1, y2, y3, y4⟩ := pY n hn
  have hk4 := pg_kd4 ok hn
  have hk : b_kind (nI n).toNatClampNeg = nI (pg_kd P n) := by rw [nI_clamp (by omega)]; exact y1
  refine And.intro hi (pk_eq (pg_kd P n) 0 (fun h0 => And.intro hi ?_) (fun h0 => K0 (fun r => h0 r.2.1)) hk)
  obtain ⟨y5, y6, y7⟩ := y4 h0
  have h5 := pg_op5 ok hn h0
  have ho : b_opOf (nI n).toNatClampNeg = nI (pg_op P n) := by rw [nI_clamp (by omega)]; exact y5
  have hl : b_left (nI n).toNatClampNeg = pg_lf P n := by rw [nI_clamp (by omega)]; exact y6
  have hr : b_right (nI n).toNatClampNeg = pg_rt P n := by rw [nI_clamp (by omega)]; exact y7
  refine pk_eq (pg_op P n) 0 (fun h1 => K0 (fun r => r.2.2.1 h1)) (fun h1 => And.intro hi (br_c (fun h2 => K1 ⟨hw, h0, h1, Or.inl (hl.symm.trans h2)⟩) (fun h2 => And.intro hi (pk_eq (pg_op P n) 4 (fun h3 => K0 ?_) (fun h3 => And.intro hi (br_c (fun h4 => K1 ⟨hw, h0, h1, Or.inr ⟨h3, hr.symm.trans h4⟩⟩) (fun h4 => K0 ?_))) ho)))) ho
  · rintro ⟨_, _, _, z | z⟩
    · exact h2 (hl.trans z)
    · exact z.1 h3
  · rintro ⟨_, _, _, z | z⟩
    · exact h2 (hl.trans z)
    · exact h4 (hr.trans z.2)
theorem qy_follow {post : SY → Prop} {n w c : Nat} (ok : pg_ok P) (hn : n ≤ 20) (hw : w < pg_vs P) (hQ : yn_Q P T b_seen b_facts c) (hT : n < pg_sz P → nd_N P n w → T)
    (K : ∀ se' fa' c', yn_Q P T se' fa' c' → yn_X b_seen b_facts c se' fa' c' → (n < pg_sz P → se' (n * 6 + w) ≠ 0) → post (g_cap, g_vars, (nI (pg_sz P)), g_sealed, g_waiting, (nI c'), b_kind, b_name, b_opOf, b_left, b_right, b_goal, b_input, b_store, b_outs, b_outCount, b_counts, b_list, b_leaving, b_live, se', fa')) :
    wpY_follow post (g_cap, g_vars, (nI (pg_sz P)), g_sealed, g_waiting, (nI c), b_kind, b_name, b_opOf, b_left, b_right, b_goal, b_input, b_store, b_outs, b_outCount, b_counts, b_list, b_leaving, b_live, b_seen, b_facts) (nI n) (nI w) := by
  have h20 := pg_sz20 ok
  have h6 := pg_vs6 ok
  refine pk_le (pg_sz P) n (fun h => K _ _ _ hQ yn_X0 (fun z => absurd z (by omega))) (fun h => ?_)
  rw [nb_m6]
  have hi : vp_in (nI (n * 6 + w)) 120 := vp_in_nI (by omega) (by omega)
  refine And.intro hi ?_
  rw [nI_clamp (by omega)]
  refine br_c (fun h0 => And.intro hi ?_) (fun h0 => K _ _ _ hQ yn_X0 (fun _ => h0))
  obtain ⟨a1, a2, a3⟩ := yn_add ok hQ h hw (hT h) h0
  refine nm_r (e' := upd b_seen (n * 6 + w) 1) (by rw [bb_n1]) (And.intro (vp_in_nI a1 (by omega)) (nm_r (e' := upd b_facts c (nI (n * 6 + w))) (by rw [nI_clamp (by omega)]) (nm_r (nI_1 c) (K _ _ _ a2 a3 (fun _ => by rw [pk_us]; exact bb_10)))))
theorem qy_163 {post : Int32 → SY → Prop} {J34 : Int32 → Int32 → Int32 → Int32 → Int32 → Int32 → Int32 → (Nat → Int32) → (Nat → Int32) → (Nat → Int32) → (Nat → Int32) → (Nat → Int32) → (Nat → Int32) → (Nat → Int32) → (Nat → Int32) → (Nat → Int32) → (Nat → Int32) → (Nat → Int32) → (Nat → Int32) → (Nat → Int32) → (Nat → Int32) → (Nat → Int32) → (Nat → Int32) →  Prop} {i n w c : Nat} (ok : pg_ok P) (pY : pg_Y P b_kind b_name b_opOf b_left b_right b_goal) (hn : n < pg_sz P) (hw : w < pg_vs P) (hQ : yn_Q P T b_seen b_facts c) (hT : nd_N P n w → T)
    (K : ∀ se' fa' c', yn_Q P T se' fa' c' → yn_X b_seen b_facts c se' fa' c' → (pg_rd P n w → n + 1 < pg_sz P → se' ((n + 1) * 6 + pg_nm P n) ≠ 0) → J34 (nI (i + 1)) g_cap g_vars (nI (pg_sz P)) g_sealed g_waiting (nI c') b_kind b_name b_opOf b_left b_right b_goal b_input b_store b_outs b_outCount b_counts b_list b_leaving b_live se' fa') :
    wY_isNeeded_163 post J34 (nI i) (nI n) (nI w) g_cap g_vars (nI (pg_sz P)) g_sealed g_waiting (nI c) b_kind b_name b_opOf b_left b_right b_goal b_input b_store b_outs b_outCount b_counts b_list b_leaving b_live b_seen b_facts := by
  have h20 := pg_sz20 ok
  unfold wY_isNeeded_163
  refine qy_reads ok pY hn hw (fun r => br_f bb_10 (And.intro (vp_in_nI (by omega) (by omega)) ?_)) (fun r => br_t rfl (nm_r (nI_1 i) (K _ _ _ hQ yn_X0 (fun z => absurd z r))))
  rw [nI_1 n, nI_clamp (by omega), (pY n hn).2.1]
  exact qy_follow ok (by omega) (pg_nmv ok hn) hQ (fun h1 h2 => hT (nd_s hn ⟨h1, Or.inr ⟨r, rfl, rfl⟩⟩ h2)) (fun se' fa' c' a b d => nm_r (nI_1 i) (K se' fa' c' a b (fun _ => d)))
theorem qy_150 {post : Int32 → SY → Prop} {J34 : Int32 → Int32 → Int32 → Int32 → Int32 → Int32 → Int32 → (Nat → Int32) → (Nat → Int32) → (Nat → Int32) → (Nat → Int32) → (Nat → Int32) → (Nat → Int32) → (Nat → Int32) → (Nat → Int32) → (Nat → Int32) → (Nat → Int32) → (Nat → Int32) → (Nat → Int32) → (Nat → Int32) → (Nat → Int32) → (Nat → Int32) → (Nat → Int32) →  Prop} {i n w c : Nat} (ok : pg_ok P) (pY : pg_Y P b_kind b_name b_opOf b_left b_right b_goal) (hn : n < pg_sz P) (hw : w < pg_vs P) (hk : pg_kd P n = 3 ∨ pg_kd P n = 2) (hQ : yn_Q P T b_seen b_facts c) (hT : nd_N P n w → T)
    (K : ∀ se' fa' c', yn_Q P T se' fa' c' → yn_X b_seen b_facts c se' fa' c' → (pg_tg P n < pg_sz P → se' (pg_tg P n * 6 + w) ≠ 0) → (pg_rd P n w → n + 1 < pg_sz P → se' ((n + 1) * 6 + pg_nm P n) ≠ 0) → J34 (nI (i + 1)) g_cap g_vars (nI (pg_sz P)) g_sealed g_waiting (nI c') b_kind b_name b_opOf b_left b_right b_goal b_input b_store b_outs b_outCount b_counts b_list b_leaving b_live se' fa') :
    wY_isNeeded_150 post J34 (nI i) (nI n) (nI w) g_cap g_vars (nI (pg_sz P)) g_sealed g_waiting (nI c) b_kind b_name b_opOf b_left b_right b_goal b_input b_store b_outs b_outCount b_counts b_list b_leaving b_live b_seen b_facts := by
  have h20 := pg_sz20 ok
  unfold wY_isNeeded_150
  refine And.intro (vp_in_nI (by omega) (by omega)) ?_
  rw [nI_clamp (by omega), (pY n hn).2.2.1]
  refine qy_follow ok (pg_tg20 ok hn) hw hQ (fun h1 h2 => hT (nd_s hn ⟨h1, Or.inl ⟨fun z => by omega, rfl, Or.inr ⟨hk, rfl⟩⟩⟩ h2)) (fun se' fa' c' a b d => ?_)
  exact qy_163 ok pY hn hw a hT (fun se2 fa2 c2 a2 b2 d2 => K se2 fa2 c2 a2 (yn_Xt b b2) (fun z => b2.2.2 _ (d z)) d2)
theorem qy_138 {post : Int32 → SY → Prop} {J34 : Int32 → Int32 → Int32 → Int32 → Int32 → Int32 → Int32 → (Nat → Int32) → (Nat → Int32) → (Nat → Int32) → (Nat → Int32) → (Nat → Int32) → (Nat → Int32) → (Nat → Int32) → (Nat → Int32) → (Nat → Int32) → (Nat → Int32) → (Nat → Int32) → (Nat → Int32) → (Nat → Int32) → (Nat → Int32) → (Nat → Int32) → (Nat → Int32) →  Prop} {i n w c : Nat} (ok : pg_ok P) (pY : pg_Y P b_kind b_name b_opOf b_left b_right b_goal) (hn : n < pg_sz P) (hw : w < pg_vs P) (hQ : yn_Q P T b_seen b_facts c) (hT : nd_N P n w → T)
    (K : ∀ se' fa' c', yn_Q P T se' fa' c' → yn_X b_seen b_facts c se' fa' c' → ((pg_kd P n = 3 ∨ pg_kd P n = 2) → pg_tg P n < pg_sz P → se' (pg_tg P n * 6 + w) ≠ 0) → (pg_rd P n w → n + 1 < pg_sz P → se' ((n + 1) * 6 + pg_nm P n) ≠ 0) → J34 (nI (i + 1)) g_cap g_vars (nI (pg_sz P)) g_sealed g_waiting (nI c') b_kind b_name b_opOf b_left b_right b_goal b_input b_store b_outs b_outCount b_counts b_list b_leaving b_live se' fa') :
    wY_isNeeded_138 post J34 (nI i) (nI n) (nI w) (nI (pg_kd P n)) g_cap g_vars (nI (pg_sz P)) g_sealed g_waiting (nI c) b_kind b_name b_opOf b_left b_right b_goal b_input b_store b_outs b_outCount b_counts b_list b_leaving b_live b_seen b_facts := by
  have hk4 := pg_kd4 ok hn
  refine pk_eq (pg_kd P n) 3 (fun h => ?_) (fun h => pk_eq (pg_kd P n) 2 (fun h2 => ?_) (fun h2 => ?_))
  · exact qy_150 ok pY hn hw (Or.inl h) hQ hT (fun se' fa' c' a b d e => K se' fa' c' a b (fun _ => d) e)
  · exact qy_150 ok pY hn hw (Or.inr h2) hQ hT (fun se' fa' c' a b d e => K se' fa' c' a b (fun _ => d) e)
  · exact qy_163 ok pY hn hw hQ hT (fun se' fa' c' a b e => K se' fa' c' a b (fun z => by omega) e)
theorem qy_122 {post : Int32 → SY → Prop} {J34 : Int32 → Int32 → Int32 → Int32 → Int32 → Int32 → Int32 → (Nat → Int32) → (Nat → Int32) → (Nat → Int32) → (Nat → Int32) → (Nat → Int32) → (Nat → Int32) → (Nat → Int32) → (Nat → Int32) → (Nat → Int32) → (Nat → Int32) → (Nat → Int32) → (Nat → Int32) → (Nat → Int32) → (Nat → Int32) → (Nat → Int32) → (Nat → Int32) →  Prop} {i n w c : Nat} (ok : pg_ok P) (pY : pg_Y P b_kind b_name b_opOf b_left b_right b_goal) (hn : n < pg_sz P) (hw : w < pg_vs P) (hs : ¬ (pg_kd P n = 0 ∧ pg_nm P n = w)) (hQ : yn_Q P T b_seen b_facts c) (hT : nd_N P n w → T)
    (K : ∀ se' fa' c', yn_Q P T se' fa' c' → yn_X b_seen b_facts c se' fa' c' → (∀ n' w', nd_pr P n w n' w' → se' (n' * 6 + w') ≠ 0) → J34 (nI (i + 1)) g_cap g_vars (nI (pg_sz P)) g_sealed g_waiting (nI c') b_kind b_name b_opOf b_left b_right b_goal b_input b_store b_outs b_outCount b_counts b_list b_leaving b_live se' fa') :
    wY_isNeeded_122 post J34 (nI i) (nI n) (nI w) (nI (pg_kd P n)) g_cap g_vars (nI (pg_sz P)) g_sealed g_waiting (nI c) b_kind b_name b_opOf b_left b_right b_goal b_input b_store b_outs b_outCount b_counts b_list b_leaving b_live b_seen b_facts := by
  have h20 := pg_sz20 ok
  have hk4 := pg_kd4 ok hn
  refine pk_eq (pg_kd P n) 3 (fun h => ?_) (fun h => ?_)
  · refine qy_138 ok pY hn hw hQ hT (fun se' fa' c' a b d e => K se' fa' c' a b ?_)
    rintro n' w' ⟨hl, ⟨_, e1, ⟨z, _⟩ | ⟨z, e2⟩⟩ | ⟨r, e1, e2⟩⟩
    · exact absurd h z
    · rw [e1, e2]; exact d z (by rw [← e2]; exact hl)
    · rw [e1, e2]; exact e r (by rw [← e1]; exact hl)
  · rw [nI_1 n]
    refine qy_follow ok (by omega) hw hQ (fun h1 h2 => hT (nd_s hn ⟨h1, Or.inl ⟨hs, rfl, Or.inl ⟨h, rfl⟩⟩⟩ h2)) (fun se1 fa1 c1 a1 b1 d1 => ?_)
    refine qy_138 ok pY hn hw a1 hT (fun se' fa' c' a b d e => K se' fa' c' a (yn_Xt b1 b) ?_)
    rintro n' w' ⟨hl, ⟨_, e1, ⟨z, e2⟩ | ⟨z, e2⟩⟩ | ⟨r, e1, e2⟩⟩
    · rw [e1, e2]; exact b.2.2 _ (d1 (by rw [← e2]; exact hl))
    · rw [e1, e2]; exact d z (by rw [← e2]; exact hl)
    · rw [e1, e2]; exact e r (by rw [← e1]; exact hl)
theorem qy_105 {post : Int32 → SY → Prop} {J34 : Int32 → Int32 → Int32 → Int32 → Int32 → Int32 → Int32 → (Nat → Int32) → (Nat → Int32) → (Nat → Int32) → (Nat → Int32) → (Nat → Int32) → (Nat → Int32) → (Nat → Int32) → (Nat → Int32) → (Nat → Int32) → (Nat → Int32) → (Nat → Int32) → (Nat → Int32) → (Nat → Int32) → (Nat → Int32) → (Nat → Int32) → (Nat → Int32) →  Prop} {i n w c : Nat} (ok : pg_ok P) (pY : pg_Y P b_kind b_name b_opOf b_left b_right b_goal) (hn : n < pg_sz P) (hw : w < pg_vs P) (hQ : yn_Q P T b_seen b_facts c) (hT : nd_N P n w → T)
    (K : ∀ se' fa' c', yn_Q P T se' fa' c' → yn_X b_seen b_facts c se' fa' c' → (∀ n' w', nd_pr P n w n' w' → se' (n' * 6 + w') ≠ 0) → J34 (nI (i + 1)) g_cap g_vars (nI (pg_sz P)) g_sealed g_waiting (nI c') b_kind b_name b_opOf b_left b_right b_goal b_input b_store b_outs b_outCount b_counts b_list b_leaving b_live se' fa') :
    wY_isNeeded_105 post J34 (nI i) (nI n) (nI w) (nI (pg_kd P n)) g_cap g_vars (nI (pg_sz P)) g_sealed g_waiting (nI c) b_kind b_name b_opOf b_left b_right b_goal b_input b_store b_outs b_outCount b_counts b_list b_leaving b_live b_seen b_facts := by
  have h20 := pg_sz20 ok
  have hk4 := pg_kd4 ok hn
  have hv6 := pg_vs6 ok
  have hnm := pg_nm6 ok hn
  refine pk_eq (pg_kd P n) 0 (fun h => And.intro (vp_in_nI (by omega) (by omega)) (pk_eq (pg_nm P n) w (fun h1 => ?_) (fun h1 => ?_) (by rw [nI_clamp (by omega)]; exact (pY n hn).2.1))) (fun h => ?_)
  · refine qy_163 ok pY hn hw hQ hT (fun se' fa' c' a b e => K se' fa' c' a b ?_)
    rintro n' w' ⟨hl, ⟨z, _⟩ | ⟨r, e1, e2⟩⟩
    · exact absurd ⟨h, h1⟩ z
    · rw [e1, e2]; exact e r (by rw [← e1]; exact hl)
  · exact qy_122 ok pY hn hw (fun z => h1 z.2) hQ hT K
  · exact qy_122 ok pY hn hw (fun z => h z.1) hQ hT K
theorem qy_in34 {post : Int32 → SY → Prop} {node v : Nat} (ok : pg_ok P) (pY : pg_Y P b_kind b_name b_opOf b_left b_right b_goal) (hv : v < pg_vs P)
    (K : ∀ se' fa' fc', post (nb_b (cq_ (nd_N P node v))) (g_cap, g_vars, (nI (pg_sz P)), g_sealed, g_waiting, fc', b_kind, b_name, b_opOf, b_left, b_right, b_goal, b_input, b_store, b_outs, b_outCount, b_counts, b_list, b_leaving, b_live, se', fa')) :
    ∀ (d i c : Nat) (se fa : Nat → Int32), i + d = 120 → yn_Q P (nd_N P node v) se fa c → se (node * 6 + v) ≠ 0 →
    (∀ j, j < i → ∀ x, x < 120 → fa j = nI x → ¬ nd_us P (x / 6) (x % 6) ∧ ∀ n' w', nd_pr P (x / 6) (x % 6) n' w' → se (n' * 6 + w') ≠ 0) →
    wY_isNeeded_34 post (d + 1) (nI i) g_cap g_vars (nI (pg_sz P)) g_sealed g_waiting (nI c) b_kind b_name b_opOf b_left b_right b_goal b_input b_store b_outs b_outCount b_counts b_list b_leaving b_live se fa := by
  have h20 := pg_sz20 ok
  have h6 := pg_vs6 ok
  intro d
  induction d with
  | zero =>
    intro i c se fa hi hQ hs hd
    have hc := yn_c120 hQ
    have hno := yn_end ok hv hQ hs (by omega : c ≤ i) hd
    have K' := K se fa (nI c)
    rw [nb_bf (cq_f.mpr hno)] at K'
    exact br_t (nI_le (a := 120) (by omega) (by omega)) K'
  | succ d ih =>
    intro i c se fa hi hQ hs hd
    have hc := yn_c120 hQ
    refine br_f (nI_ge (b := 120) (by omega) (by omega)) (pk_le c i (fun hle => ?_) (fun hlt => ?_))
    · have hno := yn_end ok hv hQ hs hle hd
      have K' := K se fa (nI c)
      rw [nb_bf (cq_f.mpr hno)] at K'
      exact K'
    · obtain ⟨x, hx, e, hsx, hn, hw, hT⟩ := hQ.2.1 i hlt
      have hxe : x / 6 * 6 + x % 6 = x := by omega
      have hnm := pg_nm6 ok hn
      have n6 : ¬ (6 : Int32) = 0 := by decide
      have hi' : vp_in (nI i) 120 := vp_in_nI (by omega) (by omega)
      have hk4 := pg_kd4 ok hn
      have yes : nd_us P (x / 6) (x % 6) → post 1 (g_cap, g_vars, (nI (pg_sz P)), g_sealed, g_waiting, (nI c), b_kind, b_name, b_opOf, b_left, b_right, b_goal, b_input, b_store, b_outs, b_outCount, b_counts, b_list, b_leaving, b_live, se, fa) := by
        intro u
        have K' := K se fa (nI c)
        rw [nb_bt (cq_t.mpr (hT (nd_u hn u)))] at K'
        exact K'
      have J : ¬ nd_us P (x / 6) (x % 6) → wY_isNeeded_105 post (wY_isNeeded_34 post (d + 1)) (nI i) (nI (x / 6)) (nI (x % 6)) (nI (pg_kd P (x / 6))) g_cap g_vars (nI (pg_sz P)) g_sealed g_waiting (nI c) b_kind b_name b_opOf b_left b_right b_goal b_input b_store b_outs b_outCount b_counts b_list b_leaving b_live se fa := by
        intro hu
        refine qy_105 ok pY hn hw hQ hT (fun se' fa' c' a b f => ih (i + 1) c' se' fa' (by omega) a (b.2.2 _ hs) ?_)
        intro j hj y hy ey
        by_cases ej : j = i
        · rw [ej, b.2.1 i hlt, e] at ey
          have : x = y := nb_eq ey (by omega) (by omega)
          subst this
          exact ⟨hu, f⟩
        · rw [b.2.1 j (by omega)] at ey
          obtain ⟨g1, g2⟩ := hd j (by omega) y hy ey
          exact ⟨g1, fun n' w' p => b.2.2 _ (g2 n' w' p)⟩
      refine And.intro hi' (And.intro n6 (nm_r (e' := nI (x / 6)) (by rw [nI_clamp (by omega), e]; exact pk_div (d := 6) (by omega) (by omega) (by omega)) (And.intro hi' (And.intro n6 (nm_r (e' := nI (x % 6)) (by rw [nI_clamp (by omega), e]; exact pk_rem (d := 6) (by omega) (by omega) (by omega)) (And.intro (vp_in_nI (by omega) (by omega)) (nm_r (e' := nI (pg_kd P (x / 6))) (by rw [nI_clamp (by omega)]; exact (pY _ hn).1) ?_)))))))
      have H91 : (pg_kd P (x / 6) = 1 ∨ pg_kd P (x / 6) = 2) → wY_isNeeded_91 post (wY_isNeeded_34 post (d + 1)) (nI i) (nI (x / 6)) (nI (x % 6)) (nI (pg_kd P (x / 6))) g_cap g_vars (nI (pg_sz P)) g_sealed g_waiting (nI c) b_kind b_name b_opOf b_left b_right b_goal b_input b_store b_outs b_outCount b_counts b_list b_leaving b_live se fa := by
        intro h12
        exact And.intro (vp_in_nI (by omega) (by omega)) (pk_eq (pg_nm P (x / 6)) (x % 6) (fun h1 => yes ⟨h12, h1⟩) (fun h1 => J (fun u => h1 u.2)) (by rw [nI_clamp (by omega)]; exact (pY _ hn).2.1))
      exact pk_eq (pg_kd P (x / 6)) 1 (fun h1 => H91 (Or.inl h1)) (fun h1 => pk_eq (pg_kd P (x / 6)) 2 (fun h2 => H91 (Or.inr h2)) (fun h2 => J (fun u => by rcases u.1 with z | z; exact h1 z; exact h2 z)))
theorem qy_in2 {post : Int32 → SY → Prop} {node v : Nat} (ok : pg_ok P) (pY : pg_Y P b_kind b_name b_opOf b_left b_right b_goal) (hn : node < pg_sz P) (hv : v < pg_vs P)
    (K : ∀ se' fa' fc', post (nb_b (cq_ (nd_N P node v))) (g_cap, g_vars, (nI (pg_sz P)), g_sealed, g_waiting, fc', b_kind, b_name, b_opOf, b_left, b_right, b_goal, b_input, b_store, b_outs, b_outCount, b_counts, b_list, b_leaving, b_live, se', fa')) :
    ∀ (d i : Nat) (se : Nat → Int32), i + d = 120 → (∀ x, x < i → se x = 0) →
    wY_isNeeded_2 post (nI node) (nI v) g_cap g_vars (nI (pg_sz P)) g_sealed g_waiting g_factCount (d + 1) (nI i) b_kind b_name b_opOf b_left b_right b_goal b_input b_store b_outs b_outCount b_counts b_list b_leaving b_live se b_facts := by
  have h20 := pg_sz20 ok
  intro d
  induction d with
  | zero =>
    intro i se hi hz
    have hz' : ∀ x, x < 120 → se x = 0 := fun x hx => hz x (by omega)
    refine br_t (nI_le (a := 120) (by omega) (by omega)) (qy_follow (T := nd_N P node v) (c := 0) ok (by omega) hv ⟨fun x hx z => absurd (hz' x hx) z, fun j hj => absurd hj (Nat.not_lt_zero j), cn_zero 120 (fun x hx => cn_bf.mpr (hz' x hx))⟩ (fun _ z => z) (fun se' fa' c' a b f => ⟨121, ?_⟩))
    exact qy_in34 ok pY hv K 120 0 c' se' fa' (by omega) a (f hn) (fun j hj => absurd hj (Nat.not_lt_zero j))
  | succ d ih =>
    intro i se hi hz
    refine br_f (nI_ge (b := 120) (by omega) (by omega)) (And.intro (vp_in_nI (by omega) (by omega)) (nm_e (nm_r (nI_1 i) (ih (i + 1) _ (by omega) ?_))))
    intro m hm
    rw [nI_clamp (by omega), bb_n0]
    by_cases e : m = i
    · rw [e, pk_us]
    · rw [pk_un e]; exact hz m (by omega)
theorem qy_isNeeded {post : Int32 → SY → Prop} {node v : Nat} (ok : pg_ok P) (pY : pg_Y P b_kind b_name b_opOf b_left b_right b_goal) (hn : node < pg_sz P) (hv : v < pg_vs P)
    (K : ∀ se' fa' fc', post (nb_b (cq_ (nd_N P node v))) (g_cap, g_vars, (nI (pg_sz P)), g_sealed, g_waiting, fc', b_kind, b_name, b_opOf, b_left, b_right, b_goal, b_input, b_store, b_outs, b_outCount, b_counts, b_list, b_leaving, b_live, se', fa')) :
    wpY_isNeeded post (g_cap, g_vars, (nI (pg_sz P)), g_sealed, g_waiting, g_factCount, b_kind, b_name, b_opOf, b_left, b_right, b_goal, b_input, b_store, b_outs, b_outCount, b_counts, b_list, b_leaving, b_live, b_seen, b_facts) (nI node) (nI v) :=
  ⟨121, qy_in2 ok pY hn hv K 120 0 b_seen (by omega) (fun x hx => absurd hx (Nat.not_lt_zero x))⟩
end
end
section
/-! ===== performing, pure ===== -/
def pf_v (P : pg_T) (n : Nat) (st : Nat → Int32) : Int32 :=
  if pg_op P n = 0 then pg_lf P n else if pg_op P n = 1 then st (pg_lf P n).toNatClampNeg + st (pg_rt P n).toNatClampNeg else if pg_op P n = 2 then st (pg_lf P n).toNatClampNeg - st (pg_rt P n).toNatClampNeg else if pg_op P n = 3 then st (pg_lf P n).toNatClampNeg * st (pg_rt P n).toNatClampNeg else st (pg_lf P n).toNatClampNeg + pg_rt P n
def pf_1 (P : pg_T) (md : Nat) (s : (Nat → Int32) × (Nat → Int32)) (n : Nat) : (Nat → Int32) × (Nat → Int32) := (upd s.1 (pg_nm P n) (pf_v P n s.1), upd s.2 (md * 20 + n) (s.2 (md * 20 + n) + 1))
def pf_l (P : pg_T) (md : Nat) (s : (Nat → Int32) × (Nat → Int32)) (l : List Nat) : (Nat → Int32) × (Nat → Int32) := l.foldl (pf_1 P md) s
theorem pf_la {P : pg_T} {md : Nat} {s : (Nat → Int32) × (Nat → Int32)} {l : List Nat} {e : Nat} : pf_l P md s (l ++ [e]) = pf_1 P md (pf_l P md s l) e := by
  unfold pf_l
  rw [List.foldl_append]
  rfl
section
variable {P : pg_T} {n : Nat} {st : Nat → Int32}
theorem pf_0 (h : pg_op P n = 0) : pf_v P n st = pg_lf P n := by unfold pf_v; rw [if_pos h]
theorem pf_11 (h : pg_op P n = 1) : pf_v P n st = st (pg_lf P n).toNatClampNeg + st (pg_rt P n).toNatClampNeg := by unfold pf_v; rw [if_neg (by omega), if_pos h]
theorem pf_2 (h : pg_op P n = 2) : pf_v P n st = st (pg_lf P n).toNatClampNeg - st (pg_rt P n).toNatClampNeg := by unfold pf_v; rw [if_neg (by omega), if_neg (by omega), if_pos h]
theorem pf_3 (h : pg_op P n = 3) : pf_v P n st = st (pg_lf P n).toNatClampNeg * st (pg_rt P n).toNatClampNeg := by unfold pf_v; rw [if_neg (by omega), if_neg (by omega), if_neg (by omega), if_pos h]
theorem pf_4 (h : pg_op P n = 4) : pf_v P n st = st (pg_lf P n).toNatClampNeg + pg_rt P n := by unfold pf_v; rw [if_neg (by omega), if_neg (by omega), if_neg (by omega), if_neg (by omega)]
theorem pf_L (ok : pg_ok P) (hn : n < pg_sz P) (hk : pg_kd P n = 0) (h : pg_op P n ≠ 0) : vp_in (pg_lf P n) 6 := by
  obtain ⟨a, ha, e⟩ := ((ok.2.2.2 n hn).2.2.2 hk).2.1 h
  have := pg_vs6 ok
  rw [e]; exact vp_in_nI (by omega) (by omega)
theorem pf_R (ok : pg_ok P) (hn : n < pg_sz P) (hk : pg_kd P n = 0) (h : pg_op P n ≠ 0) (h4 : pg_op P n ≠ 4) : vp_in (pg_rt P n) 6 := by
  obtain ⟨a, ha, e⟩ := ((ok.2.2.2 n hn).2.2.2 hk).2.2 h h4
  have := pg_vs6 ok
  rw [e]; exact vp_in_nI (by omega) (by omega)
end
section
variable {g_cap g_vars g_size g_sealed g_waiting g_factCount : Int32} {b_kind b_name b_opOf b_left b_right b_goal b_input b_store b_outs b_outCount b_counts b_list b_leaving b_live b_seen b_facts : Nat → Int32}
variable {P : pg_T}
/-! ===== Y's compaction ===== -/
theorem qy_rl4 {post : SY → Prop} {g : Nat → Nat} {F : Nat → Bool} {len : Nat} (hl : len ≤ 96) (hp : sq_F b_leaving F 0 len)
    (K : ∀ w', sq_R w' 0 (sq_k g F len) → post (g_cap, g_vars, g_size, g_sealed, (nI (sq_k g F len).length), g_factCount, b_kind, b_name, b_opOf, b_left, b_right, b_goal, b_input, b_store, b_outs, b_outCount, b_counts, w', b_leaving, b_live, b_seen, b_facts)) :
    ∀ (d i : Nat) (w : Nat → Int32), i + d = len → sq_R w 0 (sq_k g F i) → (∀ j, i ≤ j → j < len → w j = nI (g j)) →
    wY_removeLeaving_4 post g_cap g_vars g_size g_sealed (nI len) g_factCount (d + 1) (nI (sq_k g F i).length) (nI i) b_kind b_name b_opOf b_left b_right b_goal b_input b_store b_outs b_outCount b_counts w b_leaving b_live b_seen b_facts := by
  intro d
  induction d with
  | zero =>
    intro i w hi hR hw
    have e : i = len := by omega
    subst e
    exact br_t (nI_le (by omega) (by omega)) (K w hR)
  | succ d ih =>
    intro i w hi hR hw
    have hk := sq_kl (g := g) (F := F) i
    have hpi : b_leaving (nI i).toNatClampNeg = nb_b (F i) := by rw [nI_clamp (by omega)]; exact hp i (by omega) (by omega)
    refine br_f (nI_ge (by omega) (by omega)) (And.intro (vp_in_nI (by omega) (by omega)) ?_)
    rw [hpi]
    cases hF : F i
    · refine br_t rfl (And.intro (vp_in_nI (by omega) (by omega)) (And.intro (vp_in_nI (by omega) (by omega)) (nm_e (nm_r (nI_1 _) (nm_r (nI_1 i) ?_)))))
      rw [nI_clamp (by omega), nI_clamp (by omega)]
      have e : (sq_k g F i).length + 1 = (sq_k g F (i + 1)).length := by rw [sq_kf hF, sq_len]
      rw [e]
      refine ih (i + 1) _ (by omega) ?_ ?_
      · rw [sq_kf hF]
        refine sq_Ra ?_ ?_
        · intro j hj
          rw [pk_un (by omega)]; exact hR j hj
        · rw [Nat.zero_add, pk_us]; exact hw i (by omega) (by omega)
      · intro j h1 h2
        rw [pk_un (by omega)]; exact hw j (by omega) h2
    · refine br_f bb_10 (nm_r (nI_1 i) ?_)
      have e : (sq_k g F i) = (sq_k g F (i + 1)) := by rw [sq_kt hF]
      rw [e]
      refine ih (i + 1) _ (by omega) ?_ ?_
      · rw [sq_kt hF]; exact hR
      · intro j h1 h2
        exact hw j (by omega) h2
theorem qy_removeLeaving {post : SY → Prop} {g : Nat → Nat} {F : Nat → Bool} {len : Nat} (hl : len ≤ 96) (hp : sq_F b_leaving F 0 len) (hw : ∀ j, j < len → b_list j = nI (g j))
    (K : ∀ w', sq_R w' 0 (sq_k g F len) → post (g_cap, g_vars, g_size, g_sealed, (nI (sq_k g F len).length), g_factCount, b_kind, b_name, b_opOf, b_left, b_right, b_goal, b_input, b_store, b_outs, b_outCount, b_counts, w', b_leaving, b_live, b_seen, b_facts)) : wpY_removeLeaving post (g_cap, g_vars, g_size, g_sealed, (nI len), g_factCount, b_kind, b_name, b_opOf, b_left, b_right, b_goal, b_input, b_store, b_outs, b_outCount, b_counts, b_list, b_leaving, b_live, b_seen, b_facts) :=
  ⟨len + 1, qy_rl4 hl hp K len 0 b_list (by omega) sq_Rn (fun j _ h => hw j h)⟩
/-! ===== Y's sift ===== -/
theorem qy_s95 {post : SY → Prop} {J35 : Int32 → (Nat → Int32) → (Nat → Int32) → (Nat → Int32) → (Nat → Int32) → (Nat → Int32) → (Nat → Int32) → (Nat → Int32) → (Nat → Int32) → (Nat → Int32) → (Nat → Int32) → (Nat → Int32) → (Nat → Int32) → (Nat → Int32) → (Nat → Int32) → (Nat → Int32) → (Nat → Int32) →  Prop} {e j : Nat} {M : Nat → Bool} (ok : pg_ok P) (pY : pg_Y P b_kind b_name b_opOf b_left b_right b_goal) (he : e < pg_sz P)
    (K : ∀ lv', (∀ w, w < pg_vs P → lv' w = nb_b (cq_ (pg_rd P e w) || M w)) → J35 (nI j + (-1)) b_kind b_name b_opOf b_left b_right b_goal b_input b_store b_outs b_outCount b_counts b_list b_leaving lv' b_seen b_facts) :
    ∀ (d v : Nat) (lv : Nat → Int32), v + d = pg_vs P → (∀ w, w < pg_vs P → lv w = nb_b (if w < v then cq_ (pg_rd P e w) || M w else M w)) →
    wY_sift_95 post J35 (nI j) (nI e) g_cap (nI (pg_vs P)) g_size g_sealed g_waiting g_factCount (d + 1) (nI v) b_kind b_name b_opOf b_left b_right b_goal b_input b_store b_outs b_outCount b_counts b_list b_leaving lv b_seen b_facts := by
  have h6 := pg_vs6 ok
  intro d
  induction d with
  | zero =>
    intro v lv hv hlv
    refine br_t (nI_le (by omega) (by omega)) (nm_e (K lv ?_))
    intro w hw
    have := hlv w hw
    rw [if_pos (by omega)] at this; exact this
  | succ d ih =>
    intro v lv hv hlv
    have hlvv := hlv v (by omega)
    rw [if_neg (by omega)] at hlvv
    refine br_f (nI_ge (by omega) (by omega)) (qy_reads ok pY he (by omega) (fun r => br_f bb_10 (And.intro (vp_in_nI (by omega) (by omega)) (nm_e (nm_r (nI_1 v) (ih (v + 1) _ (by omega) ?_))))) (fun r => br_t rfl (nm_r (nI_1 v) (ih (v + 1) lv (by omega) ?_))))
    · intro w hw
      rw [nI_clamp (by omega), bb_n1]
      by_cases ew : w = v
      · rw [ew, pk_us, if_pos (by omega), cq_t.mpr r]; rfl
      · rw [pk_un ew, hlv w hw]
        by_cases h : w < v
        · rw [if_pos h, if_pos (by omega)]
        · rw [if_neg h, if_neg (by omega)]
    · intro w hw
      by_cases ew : w = v
      · rw [ew, hlvv, if_pos (by omega), cq_f.mpr r]; rfl
      · rw [hlv w hw]
        by_cases h : w < v
        · rw [if_pos h, if_pos (by omega)]
        · rw [if_neg h, if_neg (by omega)]
theorem qy_s35 {post : SY → Prop} {l : List Nat} {L : Nat → Bool} (ok : pg_ok P) (pY : pg_Y P b_kind b_name b_opOf b_left b_right b_goal) (hV : sq_V P l) (hl : l.length ≤ 20) (hw : sq_R b_list 0 l)
    (K : ∀ w' p' lv', sq_R w' 0 (sq_k (sq_a l) (sq_sf P (sq_a l) l.length L) l.length) → post (g_cap, (nI (pg_vs P)), g_size, g_sealed, (nI (sq_k (sq_a l) (sq_sf P (sq_a l) l.length L) l.length).length), g_factCount, b_kind, b_name, b_opOf, b_left, b_right, b_goal, b_input, b_store, b_outs, b_outCount, b_counts, w', p', lv', b_seen, b_facts)) :
    ∀ (j d : Nat) (lv p : Nat → Int32), j + d = l.length → (∀ w, w < pg_vs P → lv w = nb_b (sq_sv P (sq_a l) l.length L d w)) → sq_F p (sq_sf P (sq_a l) l.length L) j l.length →
    wY_sift_35 post g_cap (nI (pg_vs P)) g_size g_sealed (nI l.length) g_factCount (j + 1) (nI j + (-1)) b_kind b_name b_opOf b_left b_right b_goal b_input b_store b_outs b_outCount b_counts b_list p lv b_seen b_facts := by
  have h20 := pg_sz20 ok
  have h6 := pg_vs6 ok
  have hw' : ∀ j, j < l.length → b_list j = nI (sq_a l j) := by
    intro j hj
    have := hw j hj
    rw [Nat.zero_add] at this; exact this
  intro j
  induction j with
  | zero =>
    intro d lv p hd hx hp
    exact br_t nb_neg (qy_removeLeaving (g := sq_a l) (F := sq_sf P (sq_a l) l.length L) (by omega) hp hw' (fun w' hR => K w' p lv hR))
  | succ j ih =>
    intro d lv p hd hx hp
    have he : sq_a l j < pg_sz P ∧ pg_kd P (sq_a l j) = 0 := hV _ (sq_g (l := l) (i := j) (by omega))
    have he1 : sq_a l j < 20 := by omega
    have hs : b_name (nI (sq_a l j)).toNatClampNeg = nI (pg_nm P (sq_a l j)) := by rw [nI_clamp (by omega)]; exact (pY _ he.1).2.1
    have hnv : pg_nm P (sq_a l j) < pg_vs P := pg_nmv ok he.1
    have ei : vp_in (nI (sq_a l j)) 20 := vp_in_nI he1 (by omega)
    have ni : vp_in (b_name (nI (sq_a l j)).toNatClampNeg) 6 := by rw [hs]; exact vp_in_nI (by omega) (by omega)
    have hi : vp_in (nI j) 96 := vp_in_nI (by omega) (by omega)
    have ej : l.length - 1 - d = j := by omega
    have ed : l.length - 1 - j = d := by omega
    have hfl : sq_sf P (sq_a l) l.length L j = !sq_sv P (sq_a l) l.length L d (pg_nm P (sq_a l j)) := by unfold sq_sf; rw [ed]
    have hlv : lv (b_name (nI (sq_a l j)).toNatClampNeg).toNatClampNeg = nb_b (sq_sv P (sq_a l) l.length L d (pg_nm P (sq_a l j))) := by rw [hs, nI_clamp (by omega)]; exact hx _ hnv
    rw [pk_m1]
    refine br_f (nI_pos (by omega)) (And.intro hi (nm_r (e' := nI (sq_a l j)) ?_ (And.intro ei (And.intro ni ?_))))
    · rw [nI_clamp (by omega)]; exact hw' j (by omega)
    · rw [hlv]
      cases hv : sq_sv P (sq_a l) l.length L d (pg_nm P (sq_a l j))
      · rw [hv] at hfl
        refine br_t rfl (And.intro hi (nm_r (e' := upd p j 1) (by rw [nI_clamp (by omega), bb_n1]) (And.intro hi (br_f (by rw [nI_clamp (by omega), pk_us]; exact bb_10) (nm_e (ih (d + 1) lv _ (by omega) ?_ ?_))))))
        · intro w hw
          rw [sq_svf ej hv]; exact hx w hw
        · intro i h1 h2
          by_cases e : i = j
          · rw [e, pk_us, hfl]; rfl
          · rw [pk_un e]; exact hp i (by omega) h2
      · rw [hv] at hfl
        refine br_f bb_10 (And.intro hi (nm_r (e' := upd p j 0) (by rw [nI_clamp (by omega), bb_n0]) (And.intro hi (br_t (by rw [nI_clamp (by omega), pk_us]) (And.intro ei (And.intro ni (nm_r (e' := upd lv (pg_nm P (sq_a l j)) 0) (by rw [hs, nI_clamp (by omega), bb_n0]) ⟨pg_vs P + 1, qy_s95 (M := fun w => sq_sv P (sq_a l) l.length L d w && !decide (w = pg_nm P (sq_a l j))) ok pY he.1 (fun lv' hlv' => ih (d + 1) lv' _ (by omega) ?_ ?_) (pg_vs P) 0 _ (by omega) ?_⟩)))))))
        · intro w hw
          rw [sq_svt ej hv]; exact hlv' w hw
        · intro i h1 h2
          by_cases e : i = j
          · rw [e, pk_us, hfl]; rfl
          · rw [pk_un e]; exact hp i (by omega) h2
        · intro w hw
          rw [if_neg (Nat.not_lt_zero w)]
          by_cases e : w = pg_nm P (sq_a l j)
          · rw [e, pk_us, decide_eq_true rfl, Bool.not_true, Bool.and_false]; rfl
          · rw [pk_un e, decide_eq_false e, Bool.not_false, Bool.and_true]; exact hx w hw
theorem qy_s2 {post : SY → Prop} {l : List Nat} {m : Nat} (ok : pg_ok P) (pY : pg_Y P b_kind b_name b_opOf b_left b_right b_goal) (hm : m < pg_sz P) (hV : sq_V P l) (hl : l.length ≤ 20) (hw : sq_R b_list 0 l)
    (K : ∀ w' p' lv' se' fa' fc', sq_R w' 0 (sq_s P m l) → post (g_cap, (nI (pg_vs P)), (nI (pg_sz P)), g_sealed, (nI (sq_s P m l).length), fc', b_kind, b_name, b_opOf, b_left, b_right, b_goal, b_input, b_store, b_outs, b_outCount, b_counts, w', p', lv', se', fa')) :
    ∀ (d v : Nat) (lv se fa : Nat → Int32) (fc : Int32), v + d = pg_vs P → (∀ w, w < v → lv w = nb_b (cq_ (nd_N P m w))) →
    wY_sift_2 post (nI m) (d + 1) (nI v) g_cap (nI (pg_vs P)) (nI (pg_sz P)) g_sealed (nI l.length) fc b_kind b_name b_opOf b_left b_right b_goal b_input b_store b_outs b_outCount b_counts b_list b_leaving lv se fa := by
  have h6 := pg_vs6 ok
  intro d
  induction d with
  | zero =>
    intro v lv se fa fc hv hlv
    refine br_t (nI_le (by omega) (by omega)) (nm_r (nb_s1 _) ⟨l.length + 1, qy_s35 (L := sq_L P m) ok pY hV hl hw (fun w' p' lv' h => K w' p' lv' se fa fc h) l.length 0 lv b_leaving (by omega) ?_ (fun i h1 h2 => by omega)⟩)
    intro w hw
    exact hlv w (by omega)
  | succ d ih =>
    intro v lv se fa fc hv hlv
    refine br_f (nI_ge (by omega) (by omega)) (qy_isNeeded ok pY hm (by omega) (fun se' fa' fc' => And.intro (vp_in_nI (by omega) (by omega)) (nm_e (nm_r (nI_1 v) (ih (v + 1) _ se' fa' fc' (by omega) ?_)))))
    intro w hw
    rw [nI_clamp (by omega), nb_nb]
    by_cases e : w = v
    · rw [e, pk_us]
    · rw [pk_un e]; exact hlv w (by omega)
theorem qy_sift {post : SY → Prop} {l : List Nat} {m : Nat} (ok : pg_ok P) (pY : pg_Y P b_kind b_name b_opOf b_left b_right b_goal) (hm : m < pg_sz P) (hV : sq_V P l) (hl : l.length ≤ 20) (hw : sq_R b_list 0 l)
    (K : ∀ w' p' lv' se' fa' fc', sq_R w' 0 (sq_s P m l) → post (g_cap, (nI (pg_vs P)), (nI (pg_sz P)), g_sealed, (nI (sq_s P m l).length), fc', b_kind, b_name, b_opOf, b_left, b_right, b_goal, b_input, b_store, b_outs, b_outCount, b_counts, w', p', lv', se', fa')) :
    wpY_sift post (g_cap, (nI (pg_vs P)), (nI (pg_sz P)), g_sealed, (nI l.length), g_factCount, b_kind, b_name, b_opOf, b_left, b_right, b_goal, b_input, b_store, b_outs, b_outCount, b_counts, b_list, b_leaving, b_live, b_seen, b_facts) (nI m) :=
  ⟨pg_vs P + 1, qy_s2 ok pY hm hV hl hw K (pg_vs P) 0 _ _ _ _ (by omega) (fun w hw => absurd hw (Nat.not_lt_zero w))⟩
/-! ===== Y's perform ===== -/
theorem qy_perform {post : SY → Prop} {md e : Nat} (ok : pg_ok P) (pY : pg_Y P b_kind b_name b_opOf b_left b_right b_goal) (hmd : md < 2) (he : e < pg_sz P) (hk : pg_kd P e = 0)
    (K : post (g_cap, g_vars, g_size, g_sealed, g_waiting, g_factCount, b_kind, b_name, b_opOf, b_left, b_right, b_goal, b_input, ((pf_1 P md (b_store, b_counts) e).1), b_outs, b_outCount, ((pf_1 P md (b_store, b_counts) e).2), b_list, b_leaving, b_live, b_seen, b_facts)) :
    wpY_perform post (g_cap, g_vars, g_size, g_sealed, g_waiting, g_factCount, b_kind, b_name, b_opOf, b_left, b_right, b_goal, b_input, b_store, b_outs, b_outCount, b_counts, b_list, b_leaving, b_live, b_seen, b_facts) (nI md) (nI e) := by
  have h20 := pg_sz20 ok
  have hi : vp_in (nI e) 20 := vp_in_nI (by omega) (by omega)
  obtain ⟨y1, y2, y3, y4⟩ := pY e he
  obtain ⟨y5, y6, y7⟩ := y4 hk
  have h5 := pg_op5 ok he hk
  have h6 := pg_nm6 ok he
  have ho : b_opOf (nI e).toNatClampNeg = nI (pg_op P e) := by rw [nI_clamp (by omega)]; exact y5
  have hl : b_left (nI e).toNatClampNeg = pg_lf P e := by rw [nI_clamp (by omega)]; exact y6
  have hr : b_right (nI e).toNatClampNeg = pg_rt P e := by rw [nI_clamp (by omega)]; exact y7
  have hn : b_name (nI e).toNatClampNeg = nI (pg_nm P e) := by rw [nI_clamp (by omega)]; exact y2
  have H : ∀ x, x = pf_v P e b_store → wY_perform_117 post (nI md) (nI e) x g_cap g_vars g_size g_sealed g_waiting g_factCount b_kind b_name b_opOf b_left b_right b_goal b_input b_store b_outs b_outCount b_counts b_list b_leaving b_live b_seen b_facts := by
    intro x hx
    unfold wY_perform_117
    rw [hn, nb_m20, nI_clamp (by omega), nI_clamp (by omega)]
    have hj : vp_in (nI (md * 20 + e)) 40 := vp_in_nI (by omega) (by omega)
    exact And.intro hi (And.intro (vp_in_nI (by omega) (by omega)) (nm_r (e' := upd b_store (pg_nm P e) (pf_v P e b_store)) (by rw [hx]) (And.intro hj (And.intro hj (nm_e K)))))
  have s96 : ∀ x, (pg_op P e = 4 ∨ x = pf_v P e b_store) → wY_perform_96 post (nI md) (nI e) (pg_lf P e) (pg_rt P e) x g_cap g_vars g_size g_sealed g_waiting g_factCount b_kind b_name b_opOf b_left b_right b_goal b_input b_store b_outs b_outCount b_counts b_list b_leaving b_live b_seen b_facts := by
    intro x h
    exact And.intro hi (pk_eq (pg_op P e) 4 (fun h4 => And.intro (pf_L ok he hk (by omega)) (nm_e (H _ (pf_4 h4).symm))) (fun h4 => H x (h.resolve_left h4)) ho)
  have s70 : ∀ x, (pg_op P e = 3 ∨ pg_op P e = 4 ∨ x = pf_v P e b_store) → wY_perform_70 post (nI md) (nI e) (pg_lf P e) (pg_rt P e) x g_cap g_vars g_size g_sealed g_waiting g_factCount b_kind b_name b_opOf b_left b_right b_goal b_input b_store b_outs b_outCount b_counts b_list b_leaving b_live b_seen b_facts := by
    intro x h
    exact And.intro hi (pk_eq (pg_op P e) 3 (fun h4 => And.intro (pf_L ok he hk (by omega)) (And.intro (pf_R ok he hk (by omega) (by omega)) (nm_e (s96 _ (Or.inr (pf_3 h4).symm))))) (fun h4 => s96 x (h.resolve_left h4)) ho)
  have s44 : ∀ x, (pg_op P e = 2 ∨ pg_op P e = 3 ∨ pg_op P e = 4 ∨ x = pf_v P e b_store) → wY_perform_44 post (nI md) (nI e) (pg_lf P e) (pg_rt P e) x g_cap g_vars g_size g_sealed g_waiting g_factCount b_kind b_name b_opOf b_left b_right b_goal b_input b_store b_outs b_outCount b_counts b_list b_leaving b_live b_seen b_facts := by
    intro x h
    exact And.intro hi (pk_eq (pg_op P e) 2 (fun h4 => And.intro (pf_L ok he hk (by omega)) (And.intro (pf_R ok he hk (by omega) (by omega)) (nm_e (s70 _ (Or.inr (Or.inr (pf_2 h4).symm)))))) (fun h4 => s70 x (h.resolve_left h4)) ho)
  refine And.intro hi (nm_r hl (And.intro hi (nm_r hr (And.intro hi (pk_eq (pg_op P e) 1 (fun h1 => And.intro (pf_L ok he hk (by omega)) (And.intro (pf_R ok he hk (by omega) (by omega)) (nm_e (s44 _ (Or.inr (Or.inr (Or.inr (pf_11 h1).symm))))))) (fun h1 => s44 _ ?_) ho)))))
  by_cases h0 : pg_op P e = 0
  · exact Or.inr (Or.inr (Or.inr (pf_0 h0).symm))
  · omega
/-! ===== Y's settle ===== -/
theorem qy_se7 {post : SY → Prop} {l : List Nat} (ok : pg_ok P) (pY : pg_Y P b_kind b_name b_opOf b_left b_right b_goal) (hV : sq_V P l) (hl : l.length ≤ 20) (hw : sq_R b_list 0 l)
    (K : post (g_cap, g_vars, g_size, g_sealed, 0, g_factCount, b_kind, b_name, b_opOf, b_left, b_right, b_goal, b_input, ((pf_l P 1 (b_store, b_counts) l).1), b_outs, b_outCount, ((pf_l P 1 (b_store, b_counts) l).2), b_list, b_leaving, b_live, b_seen, b_facts)) :
    ∀ (d i : Nat), i + d = l.length →
    wY_settle_7 post (d + 1) (nI i) g_cap g_vars g_size g_sealed (nI l.length) g_factCount b_kind b_name b_opOf b_left b_right b_goal b_input ((pf_l P 1 (b_store, b_counts) (l.take i)).1) b_outs b_outCount ((pf_l P 1 (b_store, b_counts) (l.take i)).2) b_list b_leaving b_live b_seen b_facts := by
  intro d
  induction d with
  | zero =>
    intro i hi
    have e : i = l.length := by omega
    subst e
    rw [List.take_length]
    exact br_t (nI_le (by omega) (by omega)) K
  | succ d ih =>
    intro i hi
    have hwi : b_list i = nI (l.getD i 0) := by
      have := hw i (by omega)
      rw [Nat.zero_add] at this; exact this
    have he := hV _ (sq_g (l := l) (i := i) (by omega))
    refine br_f (nI_ge (by omega) (by omega)) (And.intro (vp_in_nI (by omega) (by omega)) ?_)
    rw [nI_clamp (by omega), hwi]
    refine qy_perform (md := 1) ok pY (by omega) he.1 he.2 (nm_r (nI_1 i) ?_)
    have H := ih (i + 1) (by omega)
    rw [sq_tk l i (by omega), pf_la] at H
    exact H
theorem qy_settle {post : SY → Prop} {l : List Nat} {m : Nat} (ok : pg_ok P) (pY : pg_Y P b_kind b_name b_opOf b_left b_right b_goal) (hm : m < pg_sz P) (hV : sq_V P l) (hl : l.length ≤ 20) (hw : sq_R b_list 0 l)
    (K : ∀ w' p' lv' se' fa' fc', post (g_cap, (nI (pg_vs P)), (nI (pg_sz P)), g_sealed, 0, fc', b_kind, b_name, b_opOf, b_left, b_right, b_goal, b_input, ((pf_l P 1 (b_store, b_counts) (sq_s P m l)).1), b_outs, b_outCount, ((pf_l P 1 (b_store, b_counts) (sq_s P m l)).2), w', p', lv', se', fa')) :
    wpY_settle post (g_cap, (nI (pg_vs P)), (nI (pg_sz P)), g_sealed, (nI l.length), g_factCount, b_kind, b_name, b_opOf, b_left, b_right, b_goal, b_input, b_store, b_outs, b_outCount, b_counts, b_list, b_leaving, b_live, b_seen, b_facts) (nI m) := by
  unfold wpY_settle
  have hl2 := sq_sl (P := P) (m := m) (l := l)
  refine qy_sift ok pY hm hV hl hw (fun w' p' lv' se' fa' fc' hR => ⟨(sq_s P m l).length + 1, ?_⟩)
  exact qy_se7 ok pY (sq_sV hV) (by omega) hR (K w' p' lv' se' fa' fc') (sq_s P m l).length 0 (by omega)
/-! ===== Y's pull ===== -/
theorem qy_clash {post : Int32 → Prop} {x y : Nat} (ok : pg_ok P) (pY : pg_Y P b_kind b_name b_opOf b_left b_right b_goal) (hx : x < pg_sz P) (hy : y < pg_sz P) (K1 : sq_cl P x y → post 1) (K0 : ¬ sq_cl P x y → post 0) : wpY_clash post (g_cap, g_vars, g_size, g_sealed, g_waiting, g_factCount, b_kind, b_name, b_opOf, b_left, b_right, b_goal, b_input, b_store, b_outs, b_outCount, b_counts, b_list, b_leaving, b_live, b_seen, b_facts) (nI x) (nI y) := by
  have h20 := pg_sz20 ok
  have xi : vp_in (nI x) 20 := vp_in_nI (by omega) (by omega)
  have yi : vp_in (nI y) 20 := vp_in_nI (by omega) (by omega)
  have nx : b_name (nI x).toNatClampNeg = nI (pg_nm P x) := by rw [nI_clamp (by omega)]; exact (pY x hx).2.1
  have ny : b_name (nI y).toNatClampNeg = nI (pg_nm P y) := by rw [nI_clamp (by omega)]; exact (pY y hy).2.1
  have x6 := pg_nm6 ok hx
  have y6 := pg_nm6 ok hy
  unfold wpY_clash
  dsimp only
  rw [nx, ny]
  refine And.intro xi (And.intro yi (pk_eq (pg_nm P x) (pg_nm P y) (fun h => K1 (Or.inl h)) (fun h => And.intro yi (qy_reads ok pY hx (pg_nmv ok hy) (fun r => br_f bb_10 (K1 (Or.inr (Or.inl r)))) (fun r => br_t rfl (And.intro xi (qy_reads ok pY hy (pg_nmv ok hx) (fun r2 => br_f bb_10 (K1 (Or.inr (Or.inr r2)))) (fun r2 => br_t rfl (K0 ?_)))))))))
  rintro (z | z | z)
  · exact h z
  · exact r z
  · exact r2 z
theorem qy_p41 {post : SY → Prop} {J7 : Int32 → (Nat → Int32) → (Nat → Int32) → (Nat → Int32) → (Nat → Int32) → (Nat → Int32) → (Nat → Int32) → (Nat → Int32) → (Nat → Int32) → (Nat → Int32) → (Nat → Int32) → (Nat → Int32) → (Nat → Int32) → (Nat → Int32) → (Nat → Int32) → (Nat → Int32) → (Nat → Int32) →  Prop} {l : List Nat} {v j d0 : Nat} {x1 : Int32} (ok : pg_ok P) (pY : pg_Y P b_kind b_name b_opOf b_left b_right b_goal) (hV : sq_V P l) (hl : l.length ≤ 20) (hw : ∀ j, j < l.length → b_list j = nI (sq_a l j)) (hj : j + 1 + d0 = l.length)
    (K : ∀ p', sq_F p' (sq_pf P (sq_a l) l.length v (d0 + 1)) j l.length → J7 (nI j + (-1)) b_kind b_name b_opOf b_left b_right b_goal b_input b_store b_outs b_outCount b_counts b_list p' b_live b_seen b_facts) :
    ∀ (d t : Nat) (p : Nat → Int32), t + d = l.length → j < t → sq_F p (sq_pf P (sq_a l) l.length v d0) (j + 1) l.length → p j = nb_b (cq_ (pg_nm P (sq_a l j) = v ∨ ∃ i, i < t ∧ sq_pf P (sq_a l) l.length v d0 i = true ∧ sq_cl P (sq_a l j) (sq_a l i))) →
    wY_pull_41 post J7 x1 (nI j) g_cap g_vars g_size g_sealed (nI l.length) g_factCount (d + 1) (nI t) b_kind b_name b_opOf b_left b_right b_goal b_input b_store b_outs b_outCount b_counts b_list p b_live b_seen b_facts := by
  have ej : l.length - 1 - d0 = j := by omega
  have hvj : sq_a l j < pg_sz P := (hV _ (sq_g (l := l) (i := j) (by omega))).1
  intro d
  induction d with
  | zero =>
    intro t p ht hjt hp hpj
    refine br_t (nI_le (by omega) (by omega)) (nm_e (K p ?_))
    intro i h1 h2
    by_cases e : i = j
    · rw [e, hpj, sq_pfj ej]
      rw [show t = l.length by omega]
    · rw [sq_pfo ej e]; exact hp i (by omega) h2
  | succ d ih =>
    intro t p ht hjt hp hpj
    have hvt : sq_a l t < pg_sz P := (hV _ (sq_g (l := l) (i := t) (by omega))).1
    have hpt : p (nI t).toNatClampNeg = nb_b (sq_pf P (sq_a l) l.length v d0 t) := by rw [nI_clamp (by omega)]; exact hp t (by omega) (by omega)
    refine br_f (nI_ge (by omega) (by omega)) (And.intro (vp_in_nI (by omega) (by omega)) ?_)
    rw [hpt]
    cases hF : sq_pf P (sq_a l) l.length v d0 t
    · refine br_t rfl (nm_r (nI_1 t) (ih (t + 1) p (by omega) (by omega) hp ?_))
      rw [hpj]
      congr 1
      apply cq_c
      constructor
      · rintro (a | ⟨i, hi, b⟩)
        · exact Or.inl a
        · exact Or.inr ⟨i, by omega, b⟩
      · rintro (a | ⟨i, hi, b, c⟩)
        · exact Or.inl a
        · refine Or.inr ⟨i, ?_, b, c⟩
          rcases Nat.lt_or_ge i t with z | z
          · exact z
          · rw [show i = t by omega, hF] at b; exact absurd b (by decide)
    · refine br_f bb_10 (And.intro (vp_in_nI (by omega) (by omega)) (And.intro (vp_in_nI (by omega) (by omega)) ?_))
      rw [nI_clamp (by omega), nI_clamp (by omega), hw j (by omega), hw t (by omega)]
      refine qy_clash ok pY hvj hvt (fun r => br_f bb_10 (And.intro (vp_in_nI (by omega) (by omega)) (nm_e (nm_r (nI_1 t) (ih (t + 1) _ (by omega) (by omega) ?_ ?_))))) (fun r => br_t rfl (nm_r (nI_1 t) (ih (t + 1) p (by omega) (by omega) hp ?_)))
      · intro i h1 h2
        rw [pk_un (by omega)]; exact hp i h1 h2
      · rw [pk_us, bb_n1, cq_t.mpr (Or.inr ⟨t, by omega, hF, r⟩)]; rfl
      · rw [hpj]
        congr 1
        apply cq_c
        constructor
        · rintro (a | ⟨i, hi, b⟩)
          · exact Or.inl a
          · exact Or.inr ⟨i, by omega, b⟩
        · rintro (a | ⟨i, hi, b, c⟩)
          · exact Or.inl a
          · refine Or.inr ⟨i, ?_, b, c⟩
            rcases Nat.lt_or_ge i t with z | z
            · exact z
            · rw [show i = t by omega] at c; exact absurd c r
theorem qy_p98 {post : SY → Prop} {l : List Nat} {F : Nat → Bool} (ok : pg_ok P) (pY : pg_Y P b_kind b_name b_opOf b_left b_right b_goal) (hV : sq_V P l) (hl : l.length ≤ 20) (hw : ∀ j, j < l.length → b_list j = nI (sq_a l j)) (hp : sq_F b_leaving F 0 l.length)
    (K : ∀ w', sq_R w' 0 (sq_k (sq_a l) F l.length) → post (g_cap, g_vars, g_size, g_sealed, (nI (sq_k (sq_a l) F l.length).length), g_factCount, b_kind, b_name, b_opOf, b_left, b_right, b_goal, b_input, ((pf_l P 1 (b_store, b_counts) (sq_k (sq_a l) (fun i => !F i) l.length)).1), b_outs, b_outCount, ((pf_l P 1 (b_store, b_counts) (sq_k (sq_a l) (fun i => !F i) l.length)).2), w', b_leaving, b_live, b_seen, b_facts)) :
    ∀ (d i : Nat), i + d = l.length →
    wY_pull_98 post (d + 1) (nI i) g_cap g_vars g_size g_sealed (nI l.length) g_factCount b_kind b_name b_opOf b_left b_right b_goal b_input ((pf_l P 1 (b_store, b_counts) (sq_k (sq_a l) (fun i => !F i) i)).1) b_outs b_outCount ((pf_l P 1 (b_store, b_counts) (sq_k (sq_a l) (fun i => !F i) i)).2) b_list b_leaving b_live b_seen b_facts := by
  intro d
  induction d with
  | zero =>
    intro i hi
    have e : i = l.length := by omega
    subst e
    exact br_t (nI_le (by omega) (by omega)) (qy_removeLeaving (g := sq_a l) (F := F) (by omega) hp hw K)
  | succ d ih =>
    intro i hi
    have he : sq_a l i < pg_sz P ∧ pg_kd P (sq_a l i) = 0 := hV _ (sq_g (l := l) (i := i) (by omega))
    have hpi : b_leaving (nI i).toNatClampNeg = nb_b (F i) := by rw [nI_clamp (by omega)]; exact hp i (by omega) (by omega)
    have H := ih (i + 1) (by omega)
    refine br_f (nI_ge (by omega) (by omega)) (And.intro (vp_in_nI (by omega) (by omega)) ?_)
    rw [hpi]
    cases hF : F i
    · rw [sq_kt (by show (!F i) = true; rw [hF]; rfl)] at H
      exact br_t rfl (nm_r (nI_1 i) H)
    · rw [sq_kf (by show (!F i) = false; rw [hF]; rfl), pf_la] at H
      refine br_f bb_10 (And.intro (vp_in_nI (by omega) (by omega)) ?_)
      rw [nI_clamp (by omega), hw i (by omega)]
      exact qy_perform (md := 1) ok pY (by omega) he.1 he.2 (nm_r (nI_1 i) H)
theorem qy_p7 {post : SY → Prop} {l : List Nat} {v : Nat} (ok : pg_ok P) (pY : pg_Y P b_kind b_name b_opOf b_left b_right b_goal) (hv : v < pg_vs P) (hV : sq_V P l) (hl : l.length ≤ 20) (hw : ∀ j, j < l.length → b_list j = nI (sq_a l j))
    (K : ∀ w' p', sq_R w' 0 (sq_pr P v l) → post (g_cap, g_vars, g_size, g_sealed, (nI (sq_pr P v l).length), g_factCount, b_kind, b_name, b_opOf, b_left, b_right, b_goal, b_input, ((pf_l P 1 (b_store, b_counts) (sq_pl P v l)).1), b_outs, b_outCount, ((pf_l P 1 (b_store, b_counts) (sq_pl P v l)).2), w', p', b_live, b_seen, b_facts)) :
    ∀ (j d : Nat) (p : Nat → Int32), j + d = l.length → sq_F p (sq_pf P (sq_a l) l.length v d) j l.length →
    wY_pull_7 post (nI v) g_cap g_vars g_size g_sealed (nI l.length) g_factCount (j + 1) (nI j + (-1)) b_kind b_name b_opOf b_left b_right b_goal b_input b_store b_outs b_outCount b_counts b_list p b_live b_seen b_facts := by
  have h20 := pg_sz20 ok
  have h6 := pg_vs6 ok
  intro j
  induction j with
  | zero =>
    intro d p hd hp
    have ed : d = l.length := by omega
    subst ed
    exact br_t nb_neg ⟨l.length + 1, qy_p98 (F := sq_fl P v l) ok pY hV hl hw hp (fun w' hR => K w' p hR) l.length 0 (by omega)⟩
  | succ j ih =>
    intro d p hd hp
    have he : sq_a l j < pg_sz P ∧ pg_kd P (sq_a l j) = 0 := hV _ (sq_g (l := l) (i := j) (by omega))
    have hx6 := pg_nm6 ok he.1
    have hi : vp_in (nI j) 96 := vp_in_nI (by omega) (by omega)
    have step : ∀ b, b = cq_ (pg_nm P (sq_a l j) = v) → ∃ n41, wY_pull_41 post (wY_pull_7 post (nI v) g_cap g_vars g_size g_sealed (nI l.length) g_factCount (j + 1)) (nI v) (nI j) g_cap g_vars g_size g_sealed (nI l.length) g_factCount n41 (nI (j + 1)) b_kind b_name b_opOf b_left b_right b_goal b_input b_store b_outs b_outCount b_counts b_list (upd p j (nb_b b)) b_live b_seen b_facts := by
      intro b hb
      refine ⟨d + 1, qy_p41 ok pY hV hl hw hd (fun p' hp' => ih (d + 1) p' (by omega) hp') d (j + 1) _ (by omega) (by omega) ?_ ?_⟩
      · intro i h1 h2
        rw [pk_un (by omega)]; exact hp i h1 h2
      · rw [pk_us, hb]
        congr 1
        apply cq_c
        constructor
        · intro z; exact Or.inl z
        · rintro (z | ⟨i, h1, h2, _⟩)
          · exact z
          · have := sq_pfz d (by omega) h2
            omega
    rw [pk_m1]
    refine br_f (nI_pos (by omega)) (And.intro hi ?_)
    rw [nI_clamp (by omega), hw j (by omega)]
    refine And.intro (vp_in_nI (by omega) (by omega)) (pk_eq (pg_nm P (sq_a l j)) v (fun h => And.intro hi (nm_r (e' := upd p j (nb_b true)) (by rw [bb_n1]; rfl) (nm_r (nI_1 j) (step true (cq_t.mpr h).symm)))) (fun h => And.intro hi (nm_r (e' := upd p j (nb_b false)) (by rw [bb_n0]; rfl) (nm_r (nI_1 j) (step false (cq_f.mpr h).symm)))) (by rw [nI_clamp (by omega)]; exact (pY _ he.1).2.1))
theorem qy_pull {post : SY → Prop} {l : List Nat} {v : Nat} (ok : pg_ok P) (pY : pg_Y P b_kind b_name b_opOf b_left b_right b_goal) (hv : v < pg_vs P) (hV : sq_V P l) (hl : l.length ≤ 20) (hw : sq_R b_list 0 l)
    (K : ∀ w' p', sq_R w' 0 (sq_pr P v l) → post (g_cap, g_vars, g_size, g_sealed, (nI (sq_pr P v l).length), g_factCount, b_kind, b_name, b_opOf, b_left, b_right, b_goal, b_input, ((pf_l P 1 (b_store, b_counts) (sq_pl P v l)).1), b_outs, b_outCount, ((pf_l P 1 (b_store, b_counts) (sq_pl P v l)).2), w', p', b_live, b_seen, b_facts)) :
    wpY_pull post (g_cap, g_vars, g_size, g_sealed, (nI l.length), g_factCount, b_kind, b_name, b_opOf, b_left, b_right, b_goal, b_input, b_store, b_outs, b_outCount, b_counts, b_list, b_leaving, b_live, b_seen, b_facts) (nI v) := by
  have hw' : ∀ j, j < l.length → b_list j = nI (sq_a l j) := by
    intro j hj
    have := hw j hj
    rw [Nat.zero_add] at this; exact this
  exact nm_r (nb_s1 _) ⟨l.length + 1, qy_p7 ok pY hv hV hl hw' K l.length 0 b_leaving (by omega) (fun i h1 h2 => by omega)⟩
/-! ===== Y's entries ===== -/
theorem qy_e64 {post : Int32 → Prop} {J36 : Int32 → Int32 → Prop} {m s j : Nat} (ok : pg_ok P) (pY : pg_Y P b_kind b_name b_opOf b_left b_right b_goal) (hm : m < pg_sz P) (hj : j < pg_sz P)
    (K : J36 (nI (s + (if (pg_kd P j = 3 ∨ pg_kd P j = 2) ∧ pg_tg P j = m then 1 else 0))) (nI (j + 1))) : wY_entries_64 post J36 (nI m) (nI s) (nI j) g_cap g_vars g_size g_sealed g_waiting g_factCount b_kind b_name b_opOf b_left b_right b_goal b_input b_store b_outs b_outCount b_counts b_list b_leaving b_live b_seen b_facts := by
  have h20 := pg_sz20 ok
  have hk4 := pg_kd4 ok hj
  have ht := pg_tg20 ok hj
  have hi : vp_in (nI j) 20 := vp_in_nI (by omega) (by omega)
  have hk : b_kind (nI j).toNatClampNeg = nI (pg_kd P j) := by rw [nI_clamp (by omega)]; exact (pY j hj).1
  have hg : b_goal (nI j).toNatClampNeg = nI (pg_tg P j) := by rw [nI_clamp (by omega)]; exact (pY j hj).2.2.1
  have H84 : (pg_kd P j = 3 ∨ pg_kd P j = 2) → wY_entries_84 post J36 (nI m) (nI s) (nI j) g_cap g_vars g_size g_sealed g_waiting g_factCount b_kind b_name b_opOf b_left b_right b_goal b_input b_store b_outs b_outCount b_counts b_list b_leaving b_live b_seen b_facts := by
    intro h
    refine And.intro hi (pk_eq (pg_tg P j) m (fun h2 => ?_) (fun h2 => ?_) hg)
    · rw [if_pos ⟨h, h2⟩] at K
      exact nm_r (nI_1 s) (nm_r (nI_1 j) K)
    · rw [if_neg (fun z => h2 z.2)] at K
      exact nm_r (nI_1 j) K
  refine And.intro hi (pk_eq (pg_kd P j) 3 (fun h => H84 (Or.inl h)) (fun h => And.intro hi (pk_eq (pg_kd P j) 2 (fun h2 => H84 (Or.inr h2)) (fun h2 => ?_) hk)) hk)
  rw [if_neg (by omega)] at K
  exact nm_r (nI_1 j) K
theorem qy_e36 {post : Int32 → Prop} {m c : Nat} (ok : pg_ok P) (pY : pg_Y P b_kind b_name b_opOf b_left b_right b_goal) (hm : m < pg_sz P) (K : post (nI (c + pg_eS P m (pg_sz P)))) :
    ∀ (d j : Nat), j + d = pg_sz P → wY_entries_36 post (nI m) g_cap g_vars (nI (pg_sz P)) g_sealed g_waiting g_factCount b_kind b_name b_opOf b_left b_right b_goal b_input b_store b_outs b_outCount b_counts b_list b_leaving b_live b_seen b_facts (d + 1) (nI (c + pg_eS P m j)) (nI j) := by
  have h20 := pg_sz20 ok
  intro d
  induction d with
  | zero =>
    intro j hj
    have e : j = pg_sz P := by omega
    subst e
    exact br_t (nI_le (by omega) (by omega)) K
  | succ d ih =>
    intro j hj
    have hk4 := pg_kd4 ok (show j < pg_sz P by omega)
    have hk : b_kind (nI j).toNatClampNeg = nI (pg_kd P j) := by rw [nI_clamp (by omega)]; exact (pY j (by omega)).1
    have H := ih (j + 1) (by omega)
    have e : c + pg_eS P m (j + 1) = (c + pg_eS P m j + (if pg_kd P j ≠ 3 ∧ j + 1 = m then 1 else 0)) + (if (pg_kd P j = 3 ∨ pg_kd P j = 2) ∧ pg_tg P j = m then 1 else 0) := by
      show c + (pg_eS P m j + pg_e1 P m j) = _
      unfold pg_e1
      omega
    rw [e] at H
    refine br_f (nI_ge (by omega) (by omega)) (And.intro (vp_in_nI (by omega) (by omega)) (pk_eq (pg_kd P j) 3 (fun h => ?_) (fun h => ?_) hk))
    · rw [if_neg (show ¬ (pg_kd P j ≠ 3 ∧ j + 1 = m) from fun z => z.1 h), Nat.add_zero] at H
      exact qy_e64 ok pY hm (by omega) H
    · refine pk_eq (j + 1) m (fun h2 => ?_) (fun h2 => ?_) (nI_1 j)
      · rw [if_pos (show pg_kd P j ≠ 3 ∧ j + 1 = m from ⟨h, h2⟩)] at H
        exact nm_r (nI_1 _) (qy_e64 ok pY hm (by omega) H)
      · rw [if_neg (show ¬ (pg_kd P j ≠ 3 ∧ j + 1 = m) from fun z => h2 z.2), Nat.add_zero] at H
        exact qy_e64 ok pY hm (by omega) H
theorem qy_entries {post : Int32 → Prop} {m : Nat} (ok : pg_ok P) (pY : pg_Y P b_kind b_name b_opOf b_left b_right b_goal) (hs : ¬ g_sealed = 0) (hm : m < pg_sz P) (K : post (nI (pg_en P m))) : wpY_entries post (g_cap, g_vars, (nI (pg_sz P)), g_sealed, g_waiting, g_factCount, b_kind, b_name, b_opOf, b_left, b_right, b_goal, b_input, b_store, b_outs, b_outCount, b_counts, b_list, b_leaving, b_live, b_seen, b_facts) (nI m) := by
  have h20 := pg_sz20 ok
  unfold pg_en at K
  refine br_f hs (br_f (nI_pos (by omega)) (br_t (nI_lt hm (by omega)) (pk_eq m 0 (fun h => ⟨pg_sz P + 1, ?_⟩) (fun h => ⟨pg_sz P + 1, ?_⟩))))
  · rw [if_pos h] at K
    exact qy_e36 (c := 1) ok pY hm K (pg_sz P) 0 (by omega)
  · rw [if_neg h] at K
    exact qy_e36 (c := 0) ok pY hm K (pg_sz P) 0 (by omega)
end
end
section
/-! ===== one visit, pure ===== -/
def rn_os (P : pg_T) (md a c : Nat) (st os : Nat → Int32) : Nat → Int32 := if pg_kd P a = 1 then upd os (md * 96 + c) (st (pg_nm P a)) else os
def rn_ol (P : pg_T) (md a c : Nat) (ol : Nat → Int32) : Nat → Int32 := if pg_kd P a = 1 then upd ol md (nI (c + 1)) else ol
def rn_c (P : pg_T) (a c : Nat) : Nat := if pg_kd P a = 1 then c + 1 else c
def rn_k (P : pg_T) (a : Nat) (st : Nat → Int32) : Nat := if pg_kd P a = 2 ∧ st (pg_nm P a) = 0 then 1 else 0
noncomputable def rn_s1 (P : pg_T) (a : Nat) (W : List Nat) (s : (Nat → Int32) × (Nat → Int32)) : (Nat → Int32) × (Nat → Int32) := if 2 ≤ pg_en P a then pf_l P 1 s (sq_s P a W) else s
section
variable {P : pg_T} {md a c : Nat} {st os ol : Nat → Int32}
theorem rn_cc : rn_c P a c ≤ c + 1 := by
  unfold rn_c
  by_cases h : pg_kd P a = 1
  · rw [if_pos h]; exact Nat.le_refl _
  · rw [if_neg h]; omega
theorem rn_olm (h : ol md = nI c) : rn_ol P md a c ol md = nI (rn_c P a c) := by
  unfold rn_ol rn_c
  by_cases h1 : pg_kd P a = 1
  · rw [if_pos h1, if_pos h1, pk_us]
  · rw [if_neg h1, if_neg h1]; exact h
theorem rn_olo {i : Nat} (h : i ≠ md) : rn_ol P md a c ol i = ol i := by
  unfold rn_ol
  by_cases h1 : pg_kd P a = 1
  · rw [if_pos h1, pk_un h]
  · rw [if_neg h1]
theorem rn_kec : rn_k P a st < pg_ec P a ∧ rn_k P a st < 2 := by
  unfold rn_k pg_ec
  by_cases h2 : pg_kd P a = 2
  · by_cases h : st (pg_nm P a) = 0
    · rw [if_pos ⟨h2, h⟩, if_pos h2]; omega
    · rw [if_neg (fun z => h z.2), if_pos h2]; omega
  · rw [if_neg (fun z => h2 z.1), if_neg h2]; omega
end
section
variable {f_opOut f_opBranch f_opJump f_cap f_vars f_size f_sealed f_queued f_workLen : Int32} {a_code a_subject a_left a_right a_dest a_uses a_entryCount a_need a_sched a_schedLen a_held a_heldLen a_reached a_queue a_work a_picked a_inputs a_store a_outs a_outLen a_counts : Nat → Int32}
variable {P : pg_T}
/-! ===== X performs ===== -/
theorem qx_evaluate {post : Int32 → Prop} {e : Nat} (ok : pg_ok P) (pX : pg_X P a_code a_subject a_left a_right a_dest a_uses) (he : e < pg_sz P) (hk : pg_kd P e = 0) (K : post (pf_v P e a_store)) : wpX_evaluate post (f_opOut, f_opBranch, f_opJump, f_cap, f_vars, f_size, f_sealed, f_queued, f_workLen, a_code, a_subject, a_left, a_right, a_dest, a_uses, a_entryCount, a_need, a_sched, a_schedLen, a_held, a_heldLen, a_reached, a_queue, a_work, a_picked, a_inputs, a_store, a_outs, a_outLen, a_counts) (nI e) := by
  have h20 := pg_sz20 ok
  have hi : vp_in (nI e) 20 := vp_in_nI (by omega) (by omega)
  obtain ⟨x1, x2, x3, x4⟩ := pX e he
  obtain ⟨x5, x6, x7⟩ := x4 hk
  have h5 := pg_op5 ok he hk
  have hc : a_code (nI e).toNatClampNeg = nI (pg_op P e) := by rw [nI_clamp (by omega), x1, pg_cd0 hk]
  have hl : a_left (nI e).toNatClampNeg = pg_lf P e := by rw [nI_clamp (by omega)]; exact x5
  have hr : a_right (nI e).toNatClampNeg = pg_rt P e := by rw [nI_clamp (by omega)]; exact x6
  refine And.intro hi (nm_r hl (And.intro hi (nm_r hr (And.intro hi (nm_r hc (br_f (nI_pos (n := pg_op P e) (by omega)) ?_))))))
  have hLR : pg_op P e ≠ 0 → vp_in (pg_lf P e) 6 := fun z => pf_L ok he hk z
  have hRR : pg_op P e ≠ 0 → pg_op P e ≠ 4 → vp_in (pg_rt P e) 6 := fun z y => pf_R ok he hk z y
  refine pk_lt 3 (pg_op P e) (fun h => And.intro (hLR (by omega)) ?_) (fun h => ?_)
  · rw [pf_4 (by omega)] at K; exact K
  refine pk_eq (pg_op P e) 0 (fun h0 => ?_) (fun h0 => ?_)
  · rw [pf_0 h0] at K; exact K
  refine pk_eq (pg_op P e) 1 (fun h1 => And.intro (hLR h0) (And.intro (hRR h0 (by omega)) ?_)) (fun h1 => ?_)
  · rw [pf_11 h1] at K; exact K
  refine pk_eq (pg_op P e) 2 (fun h2 => And.intro (hLR h0) (And.intro (hRR h0 (by omega)) ?_)) (fun h2 => ?_)
  · rw [pf_2 h2] at K; exact K
  refine pk_eq (pg_op P e) 3 (fun h3 => And.intro (hLR h0) (And.intro (hRR h0 (by omega)) ?_)) (fun h3 => trivial)
  rw [pf_3 h3] at K; exact K
theorem qx_perform {post : SX → Prop} {md e : Nat} (ok : pg_ok P) (pX : pg_X P a_code a_subject a_left a_right a_dest a_uses) (hmd : md < 2) (he : e < pg_sz P) (hk : pg_kd P e = 0)
    (K : post (f_opOut, f_opBranch, f_opJump, f_cap, f_vars, f_size, f_sealed, f_queued, f_workLen, a_code, a_subject, a_left, a_right, a_dest, a_uses, a_entryCount, a_need, a_sched, a_schedLen, a_held, a_heldLen, a_reached, a_queue, a_work, a_picked, a_inputs, ((pf_1 P md (a_store, a_counts) e).1), a_outs, a_outLen, ((pf_1 P md (a_store, a_counts) e).2))) :
    wpX_perform post (f_opOut, f_opBranch, f_opJump, f_cap, f_vars, f_size, f_sealed, f_queued, f_workLen, a_code, a_subject, a_left, a_right, a_dest, a_uses, a_entryCount, a_need, a_sched, a_schedLen, a_held, a_heldLen, a_reached, a_queue, a_work, a_picked, a_inputs, a_store, a_outs, a_outLen, a_counts) (nI md) (nI e) := by
  have h20 := pg_sz20 ok
  have h6 := pg_nm6 ok he
  have hi : vp_in (nI e) 20 := vp_in_nI (by omega) (by omega)
  have hn : a_subject (nI e).toNatClampNeg = nI (pg_nm P e) := by rw [nI_clamp (by omega)]; exact (pX e he).2.1
  have hj : vp_in (nI (md * 20 + e)) 40 := vp_in_nI (by omega) (by omega)
  unfold wpX_perform
  refine qx_evaluate ok pX he hk ?_
  rw [hn, nb_m20, nI_clamp (by omega), nI_clamp (by omega)]
  exact And.intro hi (And.intro (vp_in_nI (by omega) (by omega)) (nm_e (And.intro hj (And.intro hj (nm_e K)))))
theorem qx_pb7 {post : SX → Prop} {b : Nat} {l : List Nat} (ok : pg_ok P) (pX : pg_X P a_code a_subject a_left a_right a_dest a_uses) (hb : b < 60) (hB : sq_B a_sched a_schedLen b l) (hV : sq_V P l)
    (K : post (f_opOut, f_opBranch, f_opJump, f_cap, f_vars, f_size, f_sealed, f_queued, f_workLen, a_code, a_subject, a_left, a_right, a_dest, a_uses, a_entryCount, a_need, a_sched, a_schedLen, a_held, a_heldLen, a_reached, a_queue, a_work, a_picked, a_inputs, ((pf_l P 1 (a_store, a_counts) l).1), a_outs, a_outLen, ((pf_l P 1 (a_store, a_counts) l).2))) :
    ∀ (d i : Nat), i + d = l.length →
    wX_performBlock_7 post (nI b) (d + 1) (nI i) f_opOut f_opBranch f_opJump f_cap f_vars f_size f_sealed f_queued f_workLen a_code a_subject a_left a_right a_dest a_uses a_entryCount a_need a_sched a_schedLen a_held a_heldLen a_reached a_queue a_work a_picked a_inputs ((pf_l P 1 (a_store, a_counts) (l.take i)).1) a_outs a_outLen ((pf_l P 1 (a_store, a_counts) (l.take i)).2) := by
  have hz : a_schedLen (nI b).toNatClampNeg = nI l.length := by rw [nI_clamp (by omega)]; exact hB.1
  have hl := hB.2.2
  intro d
  induction d with
  | zero =>
    intro i hi
    have e : i = l.length := by omega
    subst e
    rw [List.take_length]
    exact And.intro (vp_in_nI hb (by omega)) (pk_le l.length l.length (fun _ => K) (fun z => absurd z (Nat.lt_irrefl _)) hz)
  | succ d ih =>
    intro i hi
    have he := hV _ (sq_g (l := l) (i := i) (by omega))
    refine And.intro (vp_in_nI hb (by omega)) (pk_le l.length i (fun z => absurd z (by omega)) (fun _ => ?_) hz)
    rw [nb_m20]
    refine And.intro (vp_in_nI (by omega) (by omega)) ?_
    rw [nI_clamp (by omega), hB.2.1 i (by omega)]
    refine qx_perform (md := 1) ok pX (by omega) he.1 he.2 (nm_r (nI_1 i) ?_)
    have H := ih (i + 1) (by omega)
    rw [sq_tk l i (by omega), pf_la] at H
    exact H
theorem qx_performBlock {post : SX → Prop} {b : Nat} {l : List Nat} (ok : pg_ok P) (pX : pg_X P a_code a_subject a_left a_right a_dest a_uses) (hb : b < 60) (hB : sq_B a_sched a_schedLen b l) (hV : sq_V P l)
    (K : post (f_opOut, f_opBranch, f_opJump, f_cap, f_vars, f_size, f_sealed, f_queued, f_workLen, a_code, a_subject, a_left, a_right, a_dest, a_uses, a_entryCount, a_need, a_sched, a_schedLen, a_held, a_heldLen, a_reached, a_queue, a_work, a_picked, a_inputs, ((pf_l P 1 (a_store, a_counts) l).1), a_outs, a_outLen, ((pf_l P 1 (a_store, a_counts) l).2))) : wpX_performBlock post (f_opOut, f_opBranch, f_opJump, f_cap, f_vars, f_size, f_sealed, f_queued, f_workLen, a_code, a_subject, a_left, a_right, a_dest, a_uses, a_entryCount, a_need, a_sched, a_schedLen, a_held, a_heldLen, a_reached, a_queue, a_work, a_picked, a_inputs, a_store, a_outs, a_outLen, a_counts) (nI b) :=
  br_t (nI_pos' (by omega)) ⟨l.length + 1, qx_pb7 ok pX hb hB hV K l.length 0 (by omega)⟩
theorem qx_pbm {post : SX → Prop} (K : post (f_opOut, f_opBranch, f_opJump, f_cap, f_vars, f_size, f_sealed, f_queued, f_workLen, a_code, a_subject, a_left, a_right, a_dest, a_uses, a_entryCount, a_need, a_sched, a_schedLen, a_held, a_heldLen, a_reached, a_queue, a_work, a_picked, a_inputs, a_store, a_outs, a_outLen, a_counts)) : wpX_performBlock post (f_opOut, f_opBranch, f_opJump, f_cap, f_vars, f_size, f_sealed, f_queued, f_workLen, a_code, a_subject, a_left, a_right, a_dest, a_uses, a_entryCount, a_need, a_sched, a_schedLen, a_held, a_heldLen, a_reached, a_queue, a_work, a_picked, a_inputs, a_store, a_outs, a_outLen, a_counts) (-1) := br_f (by decide) K
/-- the tail of a visit -/
theorem qx_110 {post : Int32 → SX → Prop} {J36 : Int32 → Int32 → Int32 → Int32 → Int32 → Int32 → Int32 → Int32 → Int32 → Int32 → Int32 → Int32 → (Nat → Int32) → (Nat → Int32) → (Nat → Int32) → (Nat → Int32) → (Nat → Int32) → (Nat → Int32) → (Nat → Int32) → (Nat → Int32) → (Nat → Int32) → (Nat → Int32) → (Nat → Int32) → (Nat → Int32) → (Nat → Int32) → (Nat → Int32) → (Nat → Int32) → (Nat → Int32) → (Nat → Int32) → (Nat → Int32) → (Nat → Int32) → (Nat → Int32) → (Nat → Int32) →  Prop} {a t : Nat} {x1 : Int32} (ok : pg_ok P) (pX : pg_X P a_code a_subject a_left a_right a_dest a_uses) (ha : a < pg_sz P)
    (K : J36 (nI (pg_te P a (rn_k P a a_store))) (nI (20 + 2 * a + rn_k P a a_store)) (nI (t + 1)) f_opOut f_opBranch f_opJump f_cap f_vars f_size f_sealed f_queued f_workLen a_code a_subject a_left a_right a_dest a_uses a_entryCount a_need a_sched a_schedLen a_held a_heldLen a_reached a_queue a_work a_picked a_inputs a_store a_outs a_outLen a_counts) : wX_run_110 post J36 x1 (nI a) (nI t) f_opOut f_opBranch f_opJump f_cap f_vars f_size f_sealed f_queued f_workLen a_code a_subject a_left a_right a_dest a_uses a_entryCount a_need a_sched a_schedLen a_held a_heldLen a_reached a_queue a_work a_picked a_inputs a_store a_outs a_outLen a_counts := by
  have h20 := pg_sz20 ok
  have h6 := pg_nm6 ok ha
  have h8 := pg_cd8 ok ha
  have hi : vp_in (nI a) 20 := vp_in_nI (by omega) (by omega)
  have hc : a_code (nI a).toNatClampNeg = nI (pg_cd P a) := by rw [nI_clamp (by omega)]; exact (pX a ha).1
  have hn : a_subject (nI a).toNatClampNeg = nI (pg_nm P a) := by rw [nI_clamp (by omega)]; exact (pX a ha).2.1
  have tail : ∀ k, k < 2 → rn_k P a a_store = k → wpX_edgeBlock (fun r_165 => (wpX_edgeTarget (fun r_196 => (∀ x4_227, x4_227 = nI t + 1 → (J36 r_196 r_165 x4_227 f_opOut f_opBranch f_opJump f_cap f_vars f_size f_sealed f_queued f_workLen a_code a_subject a_left a_right a_dest a_uses a_entryCount a_need a_sched a_schedLen a_held a_heldLen a_reached a_queue a_work a_picked a_inputs a_store a_outs a_outLen a_counts))) (f_opOut, f_opBranch, f_opJump, f_cap, f_vars, f_size, f_sealed, f_queued, f_workLen, a_code, a_subject, a_left, a_right, a_dest, a_uses, a_entryCount, a_need, a_sched, a_schedLen, a_held, a_heldLen, a_reached, a_queue, a_work, a_picked, a_inputs, a_store, a_outs, a_outLen, a_counts) (nI a) (nI k))) (f_opOut, f_opBranch, f_opJump, f_cap, f_vars, f_size, f_sealed, f_queued, f_workLen, a_code, a_subject, a_left, a_right, a_dest, a_uses, a_entryCount, a_need, a_sched, a_schedLen, a_held, a_heldLen, a_reached, a_queue, a_work, a_picked, a_inputs, a_store, a_outs, a_outLen, a_counts) (nI a) (nI k) := by
    intro k hk e
    rw [e] at K
    exact qx_edgeBlock (qx_edgeTarget ok pX ha hk (nm_r (nI_1 t) K))
  unfold wX_run_110
  refine And.intro hi (pk_eq (pg_cd P a) 6 (fun h => And.intro hi ?_) (fun h => tail 0 (by omega) ?_) hc)
  · rw [hn, nI_clamp (by omega)]
    have h2 := (pg_cdk (k := 2) ok ha (by omega)).mp h
    exact And.intro (vp_in_nI (by omega) (by omega)) (br_c (fun z => tail 1 (by omega) (if_pos ⟨h2, z⟩)) (fun z => tail 0 (by omega) (if_neg (fun y => z y.2))))
  · exact if_neg (fun y => h ((pg_cdk (k := 2) ok ha (by omega)).mpr y.1))
theorem qx_83 {post : Int32 → SX → Prop} {J36 : Int32 → Int32 → Int32 → Int32 → Int32 → Int32 → Int32 → Int32 → Int32 → Int32 → Int32 → Int32 → (Nat → Int32) → (Nat → Int32) → (Nat → Int32) → (Nat → Int32) → (Nat → Int32) → (Nat → Int32) → (Nat → Int32) → (Nat → Int32) → (Nat → Int32) → (Nat → Int32) → (Nat → Int32) → (Nat → Int32) → (Nat → Int32) → (Nat → Int32) → (Nat → Int32) → (Nat → Int32) → (Nat → Int32) → (Nat → Int32) → (Nat → Int32) → (Nat → Int32) → (Nat → Int32) →  Prop} {md a t c : Nat} (ok : pg_ok P) (pX : pg_X P a_code a_subject a_left a_right a_dest a_uses) (hmd : md < 2) (ha : a < pg_sz P) (hc : a_outLen md = nI c) (hc96 : c < 96)
    (K : J36 (nI (pg_te P a (rn_k P a a_store))) (nI (20 + 2 * a + rn_k P a a_store)) (nI (t + 1)) f_opOut f_opBranch f_opJump f_cap f_vars f_size f_sealed f_queued f_workLen a_code a_subject a_left a_right a_dest a_uses a_entryCount a_need a_sched a_schedLen a_held a_heldLen a_reached a_queue a_work a_picked a_inputs a_store (rn_os P md a c a_store a_outs) (rn_ol P md a c a_outLen) a_counts) : wX_run_83 post J36 (nI md) (nI a) (nI t) f_opOut f_opBranch f_opJump f_cap f_vars f_size f_sealed f_queued f_workLen a_code a_subject a_left a_right a_dest a_uses a_entryCount a_need a_sched a_schedLen a_held a_heldLen a_reached a_queue a_work a_picked a_inputs a_store a_outs a_outLen a_counts := by
  have h20 := pg_sz20 ok
  have h6 := pg_nm6 ok ha
  have h8 := pg_cd8 ok ha
  have hi : vp_in (nI a) 20 := vp_in_nI (by omega) (by omega)
  have hm : vp_in (nI md) 2 := vp_in_nI hmd (by omega)
  have hcd : a_code (nI a).toNatClampNeg = nI (pg_cd P a) := by rw [nI_clamp (by omega)]; exact (pX a ha).1
  have hn : a_subject (nI a).toNatClampNeg = nI (pg_nm P a) := by rw [nI_clamp (by omega)]; exact (pX a ha).2.1
  have ho : a_outLen (nI md).toNatClampNeg = nI c := by rw [nI_clamp (by omega)]; exact hc
  unfold rn_os rn_ol at K
  refine And.intro hi (pk_eq (pg_cd P a) 5 (fun h => And.intro hi (And.intro hm ?_)) (fun h => ?_) hcd)
  · rw [hn, ho]
    have h1 := (pg_cdk (k := 1) ok ha (by omega)).mp h
    rw [if_pos h1, if_pos h1] at K
    refine br_f (nI_ge (b := 96) (by omega) (by omega)) ?_
    rw [nb_m96, nI_clamp (by omega), nI_clamp (by omega), nI_clamp (by omega)]
    exact And.intro (vp_in_nI (by omega) (by omega)) (And.intro (vp_in_nI (by omega) (by omega)) (nm_e (And.intro hm (nm_r (e' := upd a_outLen md (nI (c + 1))) (by rw [nI_1]) (qx_110 ok pX ha K)))))
  · have h1 : ¬ pg_kd P a = 1 := fun z => h ((pg_cdk (k := 1) ok ha (by omega)).mpr z)
    rw [if_neg h1, if_neg h1] at K
    exact qx_110 ok pX ha K
end
section
variable {g_cap g_vars g_size g_sealed g_waiting g_factCount : Int32} {b_kind b_name b_opOf b_left b_right b_goal b_input b_store b_outs b_outCount b_counts b_list b_leaving b_live b_seen b_facts : Nat → Int32}
variable {P : pg_T}
/-! ===== Y's visit ===== -/
theorem qy_217 {post : Int32 → SY → Prop} {J88 : Int32 → Int32 → Int32 → Int32 → Int32 → Int32 → Int32 → Int32 → (Nat → Int32) → (Nat → Int32) → (Nat → Int32) → (Nat → Int32) → (Nat → Int32) → (Nat → Int32) → (Nat → Int32) → (Nat → Int32) → (Nat → Int32) → (Nat → Int32) → (Nat → Int32) → (Nat → Int32) → (Nat → Int32) → (Nat → Int32) → (Nat → Int32) → (Nat → Int32) →  Prop} {md a t c : Nat} (ok : pg_ok P) (pY : pg_Y P b_kind b_name b_opOf b_left b_right b_goal) (hmd : md < 2) (ha : a < pg_sz P) (hc : b_outCount md = nI c) (hc96 : c < 96)
    (K : J88 (nI (pg_te P a (rn_k P a b_store))) (nI (t + 1)) g_cap g_vars g_size g_sealed g_waiting g_factCount b_kind b_name b_opOf b_left b_right b_goal b_input b_store (rn_os P md a c b_store b_outs) (rn_ol P md a c b_outCount) b_counts b_list b_leaving b_live b_seen b_facts) : wY_run_217 post J88 (nI md) (nI a) (nI t) (nI (pg_kd P a)) g_cap g_vars g_size g_sealed g_waiting g_factCount b_kind b_name b_opOf b_left b_right b_goal b_input b_store b_outs b_outCount b_counts b_list b_leaving b_live b_seen b_facts := by
  have h20 := pg_sz20 ok
  have h6 := pg_nm6 ok ha
  have h4 := pg_kd4 ok ha
  have hi : vp_in (nI a) 20 := vp_in_nI (by omega) (by omega)
  have hm : vp_in (nI md) 2 := vp_in_nI hmd (by omega)
  have hn : b_name (nI a).toNatClampNeg = nI (pg_nm P a) := by rw [nI_clamp (by omega)]; exact (pY a ha).2.1
  have hg : b_goal (nI a).toNatClampNeg = nI (pg_tg P a) := by rw [nI_clamp (by omega)]; exact (pY a ha).2.2.1
  have ho : b_outCount (nI md).toNatClampNeg = nI c := by rw [nI_clamp (by omega)]; exact hc
  have H260 : ∀ os ol, J88 (nI (pg_te P a (rn_k P a b_store))) (nI (t + 1)) g_cap g_vars g_size g_sealed g_waiting g_factCount b_kind b_name b_opOf b_left b_right b_goal b_input b_store os ol b_counts b_list b_leaving b_live b_seen b_facts → wY_run_260 post J88 (nI md) (nI a) (nI t) (nI (pg_kd P a)) g_cap g_vars g_size g_sealed g_waiting g_factCount b_kind b_name b_opOf b_left b_right b_goal b_input b_store os ol b_counts b_list b_leaving b_live b_seen b_facts := by
    intro os ol K
    have yes : (pg_kd P a = 3 ∨ (pg_kd P a = 2 ∧ b_store (pg_nm P a) = 0)) → wY_run_286 post J88 (nI md) (nI a) (nI t) g_cap g_vars g_size g_sealed g_waiting g_factCount b_kind b_name b_opOf b_left b_right b_goal b_input b_store os ol b_counts b_list b_leaving b_live b_seen b_facts := by
      intro h
      have e : pg_te P a (rn_k P a b_store) = pg_tg P a := by
        unfold pg_te rn_k
        rcases h with h | h
        · rw [if_pos (Or.inr h)]
        · rw [if_pos h, if_pos (Or.inl rfl)]
      rw [e] at K
      exact br_f bb_10 (And.intro hi (nm_r hg (nm_r (nI_1 t) K)))
    have no : ¬ (pg_kd P a = 3 ∨ (pg_kd P a = 2 ∧ b_store (pg_nm P a) = 0)) → wY_run_290 post J88 (nI md) (nI a) (nI t) g_cap g_vars g_size g_sealed g_waiting g_factCount b_kind b_name b_opOf b_left b_right b_goal b_input b_store os ol b_counts b_list b_leaving b_live b_seen b_facts := by
      intro h
      have e : pg_te P a (rn_k P a b_store) = a + 1 := by
        unfold pg_te rn_k
        rw [if_neg (fun z => h (Or.inr z)), if_neg (by rintro (z | z); exact absurd z (by decide); exact h (Or.inl z))]
      rw [e] at K
      exact br_t rfl (nm_r (nI_1 a) (nm_r (nI_1 t) K))
    refine pk_eq (pg_kd P a) 3 (fun h => yes (Or.inl h)) (fun h => pk_eq (pg_kd P a) 2 (fun h2 => And.intro hi ?_) (fun h2 => no ?_))
    · rw [hn, nI_clamp (by omega)]
      exact And.intro (vp_in_nI (by omega) (by omega)) (br_c (fun z => yes (Or.inr ⟨h2, z⟩)) (fun z => no (by rintro (y | y); exact h y; exact z y.2)))
    · rintro (y | y)
      · exact h y
      · exact h2 y.1
  unfold rn_os rn_ol at K
  refine pk_eq (pg_kd P a) 1 (fun h => And.intro hm (And.intro hi ?_)) (fun h => ?_)
  · rw [hn, ho, nb_m96, nI_clamp (by omega), nI_clamp (by omega), nI_clamp (by omega), nI_1 c]
    rw [if_pos h, if_pos h] at K
    exact And.intro (vp_in_nI (by omega) (by omega)) (And.intro (vp_in_nI (by omega) (by omega)) (nm_e (And.intro hm (And.intro hm (nm_e (H260 _ _ K))))))
  · rw [if_neg h, if_neg h] at K
    exact H260 _ _ K
theorem qy_123t {post : Int32 → SY → Prop} {J88 : Int32 → Int32 → Int32 → Int32 → Int32 → Int32 → Int32 → Int32 → (Nat → Int32) → (Nat → Int32) → (Nat → Int32) → (Nat → Int32) → (Nat → Int32) → (Nat → Int32) → (Nat → Int32) → (Nat → Int32) → (Nat → Int32) → (Nat → Int32) → (Nat → Int32) → (Nat → Int32) → (Nat → Int32) → (Nat → Int32) → (Nat → Int32) → (Nat → Int32) →  Prop} {a t : Nat} {l : List Nat} (ok : pg_ok P) (pY : pg_Y P b_kind b_name b_opOf b_left b_right b_goal) (ha : a < pg_sz P) (hV : sq_V P l) (hl : l.length ≤ 20) (hw : sq_R b_list 0 l)
    (K : ∀ li' le' lv' se' fa' fc', sq_R li' 0 (sq_DD P a l) → wY_run_217 post J88 (nI 1) (nI a) (nI t) (nI (pg_kd P a)) g_cap (nI (pg_vs P)) (nI (pg_sz P)) g_sealed (nI (sq_DD P a l).length) fc' b_kind b_name b_opOf b_left b_right b_goal b_input ((pf_l P 1 (b_store, b_counts) (sq_PL P a l)).1) b_outs b_outCount ((pf_l P 1 (b_store, b_counts) (sq_PL P a l)).2) li' le' lv' se' fa') :
    wY_run_123 post J88 (nI 1) (nI a) (nI t) g_cap (nI (pg_vs P)) (nI (pg_sz P)) g_sealed (nI l.length) g_factCount b_kind b_name b_opOf b_left b_right b_goal b_input b_store b_outs b_outCount b_counts b_list b_leaving b_live b_seen b_facts := by
  have h20 := pg_sz20 ok
  have h4 := pg_kd4 ok ha
  have hi : vp_in (nI a) 20 := vp_in_nI (by omega) (by omega)
  have hk : b_kind (nI a).toNatClampNeg = nI (pg_kd P a) := by rw [nI_clamp (by omega)]; exact (pY a ha).1
  have n10 : ¬ (nI 1 : Int32) = 0 := bb_10
  have H202 : (pg_kd P a = 1 ∨ pg_kd P a = 2) → wY_run_202 post J88 (nI 1) (nI a) (nI t) (nI (pg_kd P a)) g_cap (nI (pg_vs P)) (nI (pg_sz P)) g_sealed (nI l.length) g_factCount b_kind b_name b_opOf b_left b_right b_goal b_input b_store b_outs b_outCount b_counts b_list b_leaving b_live b_seen b_facts := by
    intro h12
    have eD : sq_DD P a l = sq_pr P (pg_nm P a) (sq_s P a l) := by unfold sq_DD; rw [if_neg (by omega), if_neg (by omega)]
    have eP : sq_PL P a l = sq_pl P (pg_nm P a) (sq_s P a l) := if_pos h12
    have hl2 := sq_sl (P := P) (m := a) (l := l)
    rw [eD, eP] at K
    unfold wY_run_202
    refine qy_sift ok pY ha hV hl hw (fun w1 p1 lv1 se1 fa1 fc1 hR1 => And.intro hi ?_)
    rw [nI_clamp (by omega), (pY a ha).2.1]
    exact qy_pull ok pY (pg_nmv ok ha) (sq_sV hV) (by omega) hR1 (fun w2 p2 hR2 => K w2 p2 lv1 se1 fa1 fc1 hR2)
  refine And.intro hi (nm_r hk ?_)
  have H185 : ∀ wl li, pg_kd P a ≠ 1 → pg_kd P a ≠ 2 → wY_run_217 post J88 (nI 1) (nI a) (nI t) (nI (pg_kd P a)) g_cap (nI (pg_vs P)) (nI (pg_sz P)) g_sealed wl g_factCount b_kind b_name b_opOf b_left b_right b_goal b_input b_store b_outs b_outCount b_counts li b_leaving b_live b_seen b_facts → wY_run_185 post J88 (nI 1) (nI a) (nI t) (nI (pg_kd P a)) g_cap (nI (pg_vs P)) (nI (pg_sz P)) g_sealed wl g_factCount b_kind b_name b_opOf b_left b_right b_goal b_input b_store b_outs b_outCount b_counts li b_leaving b_live b_seen b_facts := by
    intro wl li h1 h2 H
    exact br_t rfl (br_f (nb_ne (b := 1) h1 (by omega) (by omega)) (br_f (nb_ne (b := 2) h2 (by omega) (by omega)) H))
  refine pk_eq (pg_kd P a) 0 (fun h0 => br_f n10 ?_) (fun h0 => ?_)
  · refine br_t (by rw [h0]; rfl) (br_t rfl (pk_le 96 l.length (fun z => absurd z (by omega)) (fun _ => And.intro (vp_in_nI (by omega) (by omega)) ?_)))
    refine nm_r (e' := upd b_list l.length (nI a)) (by rw [nI_clamp (by omega)]) (nm_r (nI_1 l.length) (H185 _ _ (by omega) (by omega) ?_))
    have eD : sq_DD P a l = l ++ [a] := if_pos h0
    have eP : sq_PL P a l = [] := if_neg (by omega)
    rw [eD, eP, sq_len] at K
    refine K _ _ _ _ _ _ (sq_Ra ?_ (by rw [Nat.zero_add, pk_us]))
    intro i hi'
    rw [pk_un (by omega)]; exact hw i hi'
  · refine br_f (nb_ne (b := 0) h0 (by omega) (by omega)) ?_
    by_cases h12 : pg_kd P a = 1 ∨ pg_kd P a = 2
    · refine br_t rfl (pk_eq (pg_kd P a) 1 (fun z => H202 h12) (fun h1 => pk_eq (pg_kd P a) 2 (fun z => H202 h12) (fun h2 => ?_)))
      exact absurd h12 (by omega)
    · refine H185 _ _ (by omega) (by omega) ?_
      have eD : sq_DD P a l = l := by unfold sq_DD; rw [if_neg h0, if_pos (by omega)]
      have eP : sq_PL P a l = [] := if_neg (by omega)
      rw [eD, eP] at K
      exact K _ _ _ _ _ _ hw
theorem qy_88t {post : Int32 → SY → Prop} {a t n : Nat} {W l : List Nat} (ok : pg_ok P) (pY : pg_Y P b_kind b_name b_opOf b_left b_right b_goal) (hs : ¬ g_sealed = 0) (ha : a < pg_sz P) (ht : t < 96) (hV : sq_V P W) (hl : W.length ≤ 20) (hw : sq_R b_list 0 W) (h1 : 2 ≤ pg_en P a → l = []) (h2 : ¬ 2 ≤ pg_en P a → l = W)
    (K : ∀ li' le' lv' se' fa' fc', sq_R li' 0 l → wY_run_123 post (wY_run_88 post (nI 1) n) (nI 1) (nI a) (nI t) g_cap (nI (pg_vs P)) (nI (pg_sz P)) g_sealed (nI l.length) fc' b_kind b_name b_opOf b_left b_right b_goal b_input ((rn_s1 P a W (b_store, b_counts)).1) b_outs b_outCount ((rn_s1 P a W (b_store, b_counts)).2) li' le' lv' se' fa') :
    wY_run_88 post (nI 1) (n + 1) (nI a) (nI t) g_cap (nI (pg_vs P)) (nI (pg_sz P)) g_sealed (nI W.length) g_factCount b_kind b_name b_opOf b_left b_right b_goal b_input b_store b_outs b_outCount b_counts b_list b_leaving b_live b_seen b_facts := by
  have h20 := pg_sz20 ok
  have h41 := pg_en41 ok a
  unfold rn_s1 at K
  refine br_f (nI_ge (b := 96) ht (by omega)) (br_t (nI_lt ha (by omega)) (br_t rfl (qy_entries ok pY hs ha (pk_lt (pg_en P a) 2 (fun z => ?_) (fun z => ?_)))))
  · have e := h2 (by omega)
    subst e
    rw [if_neg (by omega)] at K
    exact K _ _ _ _ _ _ hw
  · have e := h1 z
    subst e
    rw [if_pos z] at K
    exact qy_settle ok pY ha hV hl hw (fun w' p' lv' se' fa' fc' => K w' p' lv' se' fa' fc' sq_Rn)
end
end
section
/-! ===== the run in lockstep ===== -/
def rn_I (P : pg_T) (A : Nat → List Nat) (R : Nat → Prop) (sc sl : Nat → Int32) (a : Nat) (edge : Int32) (W : List Nat) : Prop := a < pg_sz P → R a ∧ ((edge = -1 ∧ W = [] ∧ A a = []) ∨ ∃ b, b < 60 ∧ edge = nI b ∧ (2 ≤ pg_en P a → sq_B sc sl b (sq_s P a W)) ∧ (¬ 2 ≤ pg_en P a → A a = W ∧ sq_B sc sl b []))
def rn_R (P : pg_T) (A : Nat → List Nat) (R : Nat → Prop) (sc sl : Nat → Int32) : Prop := ∀ n, R n → n < pg_sz P ∧ sq_V P (A n) ∧ (A n).length ≤ 20 ∧ (sq_DD P n (A n)).length ≤ 20 ∧ (2 ≤ pg_en P n → A n = []) ∧ sq_B sc sl n (sq_PL P n (A n)) ∧ ∀ k, k < pg_ec P n → pg_te P n k < pg_sz P → R (pg_te P n k) ∧ bs_e P A sc sl n k
theorem sq_PLV {P : pg_T} {n : Nat} {l : List Nat} (h : sq_V P l) : sq_V P (sq_PL P n l) := by
  unfold sq_PL
  by_cases z : pg_kd P n = 1 ∨ pg_kd P n = 2
  · rw [if_pos z]; exact sq_plV (sq_sV h)
  · rw [if_neg z]; exact sq_Vn
section
variable {f_opOut f_opBranch f_opJump f_cap f_vars f_size f_sealed f_queued f_workLen : Int32} {a_code a_subject a_left a_right a_dest a_uses a_entryCount a_need a_sched a_schedLen a_held a_heldLen a_reached a_queue a_work a_picked a_inputs a_store a_outs a_outLen a_counts : Nat → Int32}
variable {g_cap g_vars g_size g_sealed g_waiting g_factCount : Int32} {b_kind b_name b_opOf b_left b_right b_goal b_input b_store b_outs b_outCount b_counts b_list b_leaving b_live b_seen b_facts : Nat → Int32}
variable {P : pg_T} {A : Nat → List Nat} {R : Nat → Prop}
theorem qx_ph1 {post : SX → Prop} {a : Nat} {edge : Int32} {W : List Nat} (ok : pg_ok P) (pX : pg_X P a_code a_subject a_left a_right a_dest a_uses) (hI : rn_I P A R a_sched a_schedLen a edge W) (ha : a < pg_sz P) (hV : sq_V P W)
    (K : post (f_opOut, f_opBranch, f_opJump, f_cap, f_vars, f_size, f_sealed, f_queued, f_workLen, a_code, a_subject, a_left, a_right, a_dest, a_uses, a_entryCount, a_need, a_sched, a_schedLen, a_held, a_heldLen, a_reached, a_queue, a_work, a_picked, a_inputs, ((rn_s1 P a W (a_store, a_counts)).1), a_outs, a_outLen, ((rn_s1 P a W (a_store, a_counts)).2))) : wpX_performBlock post (f_opOut, f_opBranch, f_opJump, f_cap, f_vars, f_size, f_sealed, f_queued, f_workLen, a_code, a_subject, a_left, a_right, a_dest, a_uses, a_entryCount, a_need, a_sched, a_schedLen, a_held, a_heldLen, a_reached, a_queue, a_work, a_picked, a_inputs, a_store, a_outs, a_outLen, a_counts) edge := by
  obtain ⟨_, h⟩ := hI ha
  unfold rn_s1 at K
  rcases h with ⟨e, hW, _⟩ | ⟨b, hb, e, h1, h2⟩
  · subst e
    subst hW
    by_cases z : 2 ≤ pg_en P a
    · rw [if_pos z, sq_sn] at K
      exact qx_pbm K
    · rw [if_neg z] at K
      exact qx_pbm K
  · subst e
    by_cases z : 2 ≤ pg_en P a
    · rw [if_pos z] at K
      exact qx_performBlock ok pX hb (h1 z) (sq_sV hV) K
    · rw [if_neg z] at K
      exact qx_performBlock ok pX hb (h2 z).2 sq_Vn K
theorem rn_thr (ok : pg_ok P) (pX : pg_X P a_code a_subject a_left a_right a_dest a_uses) (pY : pg_Y P b_kind b_name b_opOf b_left b_right b_goal) (hs : ¬ g_sealed = 0) (hR : rn_R P A R a_sched a_schedLen) :
    ∀ (d t a : Nat) (edge : Int32) (W : List Nat) (c : Nat) (st ct os ol : Nat → Int32), t + d = 96 → sq_V P W → W.length ≤ 20 → ol 1 = nI c → c ≤ t → a ≤ 20 → rn_I P A R a_sched a_schedLen a edge W →
    ∃ (r : Int32) (st' ct' os' ol' : Nat → Int32), (∃ c', c' ≤ 96 ∧ ol' 1 = nI c') ∧ ol' 0 = ol 0 ∧
    (∀ postX : Int32 → SX → Prop, postX r (f_opOut, f_opBranch, f_opJump, f_cap, f_vars, (nI (pg_sz P)), f_sealed, f_queued, f_workLen, a_code, a_subject, a_left, a_right, a_dest, a_uses, a_entryCount, a_need, a_sched, a_schedLen, a_held, a_heldLen, a_reached, a_queue, a_work, a_picked, a_inputs, st', os', ol', ct') → wX_run_36 postX (nI 1) (d + 1) (nI a) edge (nI t) f_opOut f_opBranch f_opJump f_cap f_vars (nI (pg_sz P)) f_sealed f_queued f_workLen a_code a_subject a_left a_right a_dest a_uses a_entryCount a_need a_sched a_schedLen a_held a_heldLen a_reached a_queue a_work a_picked a_inputs st os ol ct) ∧
    (∀ (postY : Int32 → SY → Prop) (li le lv se fa : Nat → Int32) (fc : Int32), sq_R li 0 W → (∀ wt' fc' li' le' lv' se' fa', postY r (g_cap, (nI (pg_vs P)), (nI (pg_sz P)), g_sealed, wt', fc', b_kind, b_name, b_opOf, b_left, b_right, b_goal, b_input, st', os', ol', ct', li', le', lv', se', fa')) →
      wY_run_88 postY (nI 1) (d + 1) (nI a) (nI t) g_cap (nI (pg_vs P)) (nI (pg_sz P)) g_sealed (nI W.length) fc b_kind b_name b_opOf b_left b_right b_goal b_input st os ol ct li le lv se fa) := by
  have h20 := pg_sz20 ok
  intro d
  induction d with
  | zero =>
    intro t a edge W c st ct os ol ht hV hl hc hct ha20 hI
    have h96 : (96 : Int32) ≤ nI t := nI_le (a := 96) (by omega) (by omega)
    by_cases ha : a < pg_sz P
    · have hlt : nI a < nI (pg_sz P) := nI_lt ha (by omega)
      exact ⟨1, st, ct, os, ol, ⟨c, by omega, hc⟩, rfl, fun postX hp => br_t h96 (br_t hlt hp), fun postY li le lv se fa fc hli hp => br_t h96 (br_t hlt (hp _ _ _ _ _ _ _))⟩
    · have hlt : ¬ nI a < nI (pg_sz P) := nI_nlt (by omega) (by omega)
      exact ⟨0, st, ct, os, ol, ⟨c, by omega, hc⟩, rfl, fun postX hp => br_t h96 (br_f hlt hp), fun postY li le lv se fa fc hli hp => br_t h96 (br_f hlt (hp _ _ _ _ _ _ _))⟩
  | succ d ih =>
    intro t a edge W c st ct os ol ht hV hl hc hct ha20 hI
    have h96 : ¬ (96 : Int32) ≤ nI t := nI_ge (b := 96) (by omega) (by omega)
    have t96 : t < 96 := by omega
    have c96 : c < 96 := by omega
    by_cases ha : a < pg_sz P
    · have hle : ¬ nI (pg_sz P) ≤ nI a := nI_ge ha (by omega)
      obtain ⟨hRa, hedge⟩ := hI ha
      obtain ⟨_, hVA, hA20, hD20, hA2, hBl, hed⟩ := hR a hRa
      have hl2 : ¬ 2 ≤ pg_en P a → A a = W := by
        intro z
        rcases hedge with ⟨_, e1, e2⟩ | ⟨b, _, _, _, h2⟩
        · rw [e1, e2]
        · exact (h2 z).1
      have a60 : a < 60 := by omega
      have hk := rn_kec (P := P) (a := a) (st := (pf_l P 1 ((rn_s1 P a W (st, ct)).1, (rn_s1 P a W (st, ct)).2) (sq_PL P a (A a))).1)
      have hcc := rn_cc (P := P) (a := a) (c := c)
      have t1 : t + 1 + d = 96 := by omega
      have c1 : rn_c P a c ≤ t + 1 := by omega
      have inv : rn_I P A R a_sched a_schedLen (pg_te P a (rn_k P a (pf_l P 1 ((rn_s1 P a W (st, ct)).1, (rn_s1 P a W (st, ct)).2) (sq_PL P a (A a))).1)) (nI (20 + 2 * a + rn_k P a (pf_l P 1 ((rn_s1 P a W (st, ct)).1, (rn_s1 P a W (st, ct)).2) (sq_PL P a (A a))).1)) (sq_DD P a (A a)) := by
        intro hlt
        obtain ⟨hR', he⟩ := hed _ hk.1 hlt
        obtain ⟨e1, e2⟩ := he hlt
        exact ⟨hR', Or.inr ⟨_, by omega, rfl, e1, e2⟩⟩
      obtain ⟨r, st', ct', os', ol', hb, h0, HX, HY⟩ := ih (t + 1) _ _ (sq_DD P a (A a)) (rn_c P a c) (pf_l P 1 ((rn_s1 P a W (st, ct)).1, (rn_s1 P a W (st, ct)).2) (sq_PL P a (A a))).1 (pf_l P 1 ((rn_s1 P a W (st, ct)).1, (rn_s1 P a W (st, ct)).2) (sq_PL P a (A a))).2 (rn_os P 1 a c (pf_l P 1 ((rn_s1 P a W (st, ct)).1, (rn_s1 P a W (st, ct)).2) (sq_PL P a (A a))).1 os) (rn_ol P 1 a c ol) t1 (sq_DDV hVA ha) hD20 (rn_olm hc) c1 (pg_te20 ok ha) inv
      refine ⟨r, st', ct', os', ol', hb, h0.trans (rn_olo (by decide)), fun postX hp => ?_, fun postY li le lv se fa fc hli hp => ?_⟩
      · exact br_f h96 (br_f hle (br_t rfl (qx_ph1 ok pX hI ha hV (qx_performBlock ok pX a60 hBl (sq_PLV hVA) (qx_83 (md := 1) ok pX (by decide) ha hc c96 (HX postX hp))))))
      · refine qy_88t ok pY hs ha t96 hV hl hli hA2 hl2 (fun li1 le1 lv1 se1 fa1 fc1 hR1 => ?_)
        refine qy_123t ok pY ha hVA hA20 hR1 (fun li2 le2 lv2 se2 fa2 fc2 hR2 => ?_)
        exact qy_217 (md := 1) ok pY (by decide) ha hc c96 (HY postY li2 le2 lv2 se2 fa2 fc2 hR2 hp)
    · have hle : nI (pg_sz P) ≤ nI a := nI_le (by omega) (by omega)
      have hlt : ¬ nI a < nI (pg_sz P) := nI_nlt (by omega) (by omega)
      exact ⟨0, st, ct, os, ol, ⟨c, by omega, hc⟩, rfl, fun postX hp => br_f h96 (br_t hle (br_f hlt hp)), fun postY li le lv se fa fc hli hp => br_f h96 (br_f hlt (hp _ _ _ _ _ _ _))⟩
theorem rn_src (ok : pg_ok P) (pX : pg_X P a_code a_subject a_left a_right a_dest a_uses) (pY : pg_Y P b_kind b_name b_opOf b_left b_right b_goal) :
    ∀ (d t a : Nat) (edge : Int32) (c : Nat) (st ct os ol : Nat → Int32), t + d = 96 → ol 0 = nI c → c ≤ t → a ≤ 20 →
    ∃ (r : Int32) (st' ct' os' ol' : Nat → Int32), (∃ c', c' ≤ 96 ∧ ol' 0 = nI c') ∧ ol' 1 = ol 1 ∧
    (∀ postX : Int32 → SX → Prop, postX r (f_opOut, f_opBranch, f_opJump, f_cap, f_vars, (nI (pg_sz P)), f_sealed, f_queued, f_workLen, a_code, a_subject, a_left, a_right, a_dest, a_uses, a_entryCount, a_need, a_sched, a_schedLen, a_held, a_heldLen, a_reached, a_queue, a_work, a_picked, a_inputs, st', os', ol', ct') → wX_run_36 postX (nI 0) (d + 1) (nI a) edge (nI t) f_opOut f_opBranch f_opJump f_cap f_vars (nI (pg_sz P)) f_sealed f_queued f_workLen a_code a_subject a_left a_right a_dest a_uses a_entryCount a_need a_sched a_schedLen a_held a_heldLen a_reached a_queue a_work a_picked a_inputs st os ol ct) ∧
    (∀ (postY : Int32 → SY → Prop), postY r (g_cap, g_vars, (nI (pg_sz P)), g_sealed, g_waiting, g_factCount, b_kind, b_name, b_opOf, b_left, b_right, b_goal, b_input, st', os', ol', ct', b_list, b_leaving, b_live, b_seen, b_facts) →
      wY_run_88 postY (nI 0) (d + 1) (nI a) (nI t) g_cap g_vars (nI (pg_sz P)) g_sealed g_waiting g_factCount b_kind b_name b_opOf b_left b_right b_goal b_input st os ol ct b_list b_leaving b_live b_seen b_facts) := by
  have h20 := pg_sz20 ok
  have n01 : ¬ (nI 0 : Int32) = 1 := by decide
  intro d
  induction d with
  | zero =>
    intro t a edge c st ct os ol ht hc hct ha20
    have h96 : (96 : Int32) ≤ nI t := nI_le (a := 96) (by omega) (by omega)
    by_cases ha : a < pg_sz P
    · have hlt : nI a < nI (pg_sz P) := nI_lt ha (by omega)
      exact ⟨1, st, ct, os, ol, ⟨c, by omega, hc⟩, rfl, fun postX hp => br_t h96 (br_t hlt hp), fun postY hp => br_t h96 (br_t hlt hp)⟩
    · have hlt : ¬ nI a < nI (pg_sz P) := nI_nlt (by omega) (by omega)
      exact ⟨0, st, ct, os, ol, ⟨c, by omega, hc⟩, rfl, fun postX hp => br_t h96 (br_f hlt hp), fun postY hp => br_t h96 (br_f hlt hp)⟩
  | succ d ih =>
    intro t a edge c st ct os ol ht hc hct ha20
    have h96 : ¬ (96 : Int32) ≤ nI t := nI_ge (b := 96) (by omega) (by omega)
    have c96 : c < 96 := by omega
    by_cases ha : a < pg_sz P
    · have hle : ¬ nI (pg_sz P) ≤ nI a := nI_ge ha (by omega)
      have hlt : nI a < nI (pg_sz P) := nI_lt ha (by omega)
      have h4 := pg_kd4 ok ha
      have hi : vp_in (nI a) 20 := vp_in_nI (by omega) (by omega)
      have hk : b_kind (nI a).toNatClampNeg = nI (pg_kd P a) := by rw [nI_clamp (by omega)]; exact (pY a ha).1
      have hcc := rn_cc (P := P) (a := a) (c := c)
      have t1 : t + 1 + d = 96 := by omega
      have c1 : rn_c P a c ≤ t + 1 := by omega
      by_cases h0 : pg_kd P a = 0
      · have hk0 : nI (pg_kd P a) = 0 := by rw [h0]; rfl
        obtain ⟨r, st', ct', os', ol', hb, h1, HX, HY⟩ := ih (t + 1) (pg_te P a (rn_k P a (pf_1 P 0 (st, ct) a).1)) (nI (20 + 2 * a + rn_k P a (pf_1 P 0 (st, ct) a).1)) (rn_c P a c) (pf_1 P 0 (st, ct) a).1 (pf_1 P 0 (st, ct) a).2 (rn_os P 0 a c (pf_1 P 0 (st, ct) a).1 os) (rn_ol P 0 a c ol) t1 (rn_olm hc) c1 (pg_te20 ok ha)
        refine ⟨r, st', ct', os', ol', hb, h1.trans (rn_olo (by decide)), fun postX hp => ?_, fun postY hp => ?_⟩
        · refine br_f h96 (br_f hle (br_f n01 (qx_isSet ok pX ha (fun _ => br_f bb_10 ?_) (fun z => absurd h0 z))))
          exact qx_perform (md := 0) ok pX (by decide) ha h0 (qx_83 (md := 0) ok pX (by decide) ha hc c96 (HX postX hp))
        · refine br_f h96 (br_t hlt (br_f n01 (And.intro hi (nm_r hk (br_t hk0 (br_t rfl ?_))))))
          refine qy_perform (md := 0) ok pY (by decide) ha h0 ?_
          exact br_t hk0 (br_f n01 (br_f n01 (qy_217 (md := 0) ok pY (by decide) ha hc c96 (HY postY hp))))
      · have hk0 : ¬ nI (pg_kd P a) = 0 := nb_ne (b := 0) h0 (by omega) (by omega)
        obtain ⟨r, st', ct', os', ol', hb, h1, HX, HY⟩ := ih (t + 1) (pg_te P a (rn_k P a st)) (nI (20 + 2 * a + rn_k P a st)) (rn_c P a c) st ct (rn_os P 0 a c st os) (rn_ol P 0 a c ol) t1 (rn_olm hc) c1 (pg_te20 ok ha)
        refine ⟨r, st', ct', os', ol', hb, h1.trans (rn_olo (by decide)), fun postX hp => ?_, fun postY hp => ?_⟩
        · refine br_f h96 (br_f hle (br_f n01 (qx_isSet ok pX ha (fun z => absurd z h0) (fun _ => br_t rfl ?_))))
          exact qx_83 (md := 0) ok pX (by decide) ha hc c96 (HX postX hp)
        · refine br_f h96 (br_t hlt (br_f n01 (And.intro hi (nm_r hk (br_f hk0 ?_)))))
          exact br_f hk0 (br_f n01 (qy_217 (md := 0) ok pY (by decide) ha hc c96 (HY postY hp)))
    · have hle : nI (pg_sz P) ≤ nI a := nI_le (by omega) (by omega)
      have hlt : ¬ nI a < nI (pg_sz P) := nI_nlt (by omega) (by omega)
      exact ⟨0, st, ct, os, ol, ⟨c, by omega, hc⟩, rfl, fun postX hp => br_f h96 (br_t hle (br_f hlt hp)), fun postY hp => br_f h96 (br_f hlt hp)⟩
end
/-! ===== results dropped, inputs loaded ===== -/
def rn_z (md : Nat) (ct : Nat → Int32) : Nat → Int32 := fun j => if md * 20 ≤ j ∧ j < md * 20 + 20 then 0 else ct j
def rn_in (inp st : Nat → Int32) : Nat → Int32 := fun v => if v < 6 then inp v else st v
def rn_zi (inp : Nat → Int32) : Nat → Int32 := fun v => if v < 6 then 0 else inp v
section
variable {f_opOut f_opBranch f_opJump f_cap f_vars f_size f_sealed f_queued f_workLen : Int32} {a_code a_subject a_left a_right a_dest a_uses a_entryCount a_need a_sched a_schedLen a_held a_heldLen a_reached a_queue a_work a_picked a_inputs a_store a_outs a_outLen a_counts : Nat → Int32}
theorem qx_dr9 {post : SX → Prop} {md : Nat} {c0 : Nat → Int32} (hmd : md < 2) (K : post (f_opOut, f_opBranch, f_opJump, f_cap, f_vars, f_size, f_sealed, f_queued, f_workLen, a_code, a_subject, a_left, a_right, a_dest, a_uses, a_entryCount, a_need, a_sched, a_schedLen, a_held, a_heldLen, a_reached, a_queue, a_work, a_picked, a_inputs, a_store, a_outs, a_outLen, (rn_z md c0))) :
    ∀ (d i : Nat) (ct : Nat → Int32), i + d = 20 → (∀ j, ct j = if md * 20 ≤ j ∧ j < md * 20 + i then 0 else c0 j) → wX_dropResults_9 post (nI md) f_opOut f_opBranch f_opJump f_cap f_vars f_size f_sealed f_queued f_workLen (d + 1) (nI i) a_code a_subject a_left a_right a_dest a_uses a_entryCount a_need a_sched a_schedLen a_held a_heldLen a_reached a_queue a_work a_picked a_inputs a_store a_outs a_outLen ct := by
  intro d
  induction d with
  | zero =>
    intro i ct hi hct
    have e : ct = rn_z md c0 := by
      funext j
      rw [hct j, show i = 20 by omega]; rfl
    rw [e]
    exact br_t (nI_le (a := 20) (by omega) (by omega)) K
  | succ d ih =>
    intro i ct hi hct
    refine br_f (nI_ge (b := 20) (by omega) (by omega)) ?_
    rw [nb_m20]
    refine And.intro (vp_in_nI (by omega) (by omega)) (nm_e (nm_r (nI_1 i) (ih (i + 1) _ (by omega) ?_)))
    intro j
    rw [nI_clamp (by omega)]
    by_cases e : j = md * 20 + i
    · rw [e, pk_us, if_pos (by omega)]
    · rw [pk_un e, hct j]
      by_cases z : md * 20 ≤ j ∧ j < md * 20 + i
      · rw [if_pos z, if_pos (by omega)]
      · rw [if_neg z, if_neg (by omega)]
theorem qx_drop {post : SX → Prop} {md : Nat} (hmd : md < 2) (K : post (f_opOut, f_opBranch, f_opJump, f_cap, f_vars, f_size, f_sealed, f_queued, f_workLen, a_code, a_subject, a_left, a_right, a_dest, a_uses, a_entryCount, a_need, a_sched, a_schedLen, a_held, a_heldLen, a_reached, a_queue, a_work, a_picked, a_inputs, a_store, a_outs, (upd a_outLen md 0), (rn_z md a_counts))) : wpX_dropResults post (f_opOut, f_opBranch, f_opJump, f_cap, f_vars, f_size, f_sealed, f_queued, f_workLen, a_code, a_subject, a_left, a_right, a_dest, a_uses, a_entryCount, a_need, a_sched, a_schedLen, a_held, a_heldLen, a_reached, a_queue, a_work, a_picked, a_inputs, a_store, a_outs, a_outLen, a_counts) (nI md) := by
  refine And.intro (vp_in_nI hmd (by omega)) (nm_r (e' := upd a_outLen md 0) (by rw [nI_clamp (by omega)]) ⟨21, qx_dr9 (c0 := a_counts) hmd K 20 0 a_counts (by omega) ?_⟩)
  intro j
  rw [if_neg (by omega)]
theorem qx_li2 {post : SX → Prop} {s0 : Nat → Int32} (K : post (f_opOut, f_opBranch, f_opJump, f_cap, f_vars, f_size, f_sealed, f_queued, f_workLen, a_code, a_subject, a_left, a_right, a_dest, a_uses, a_entryCount, a_need, a_sched, a_schedLen, a_held, a_heldLen, a_reached, a_queue, a_work, a_picked, a_inputs, (rn_in a_inputs s0), a_outs, a_outLen, a_counts)) :
    ∀ (d i : Nat) (st : Nat → Int32), i + d = 6 → (∀ j, st j = if j < i then a_inputs j else s0 j) → wX_loadInputs_2 post f_opOut f_opBranch f_opJump f_cap f_vars f_size f_sealed f_queued f_workLen (d + 1) (nI i) a_code a_subject a_left a_right a_dest a_uses a_entryCount a_need a_sched a_schedLen a_held a_heldLen a_reached a_queue a_work a_picked a_inputs st a_outs a_outLen a_counts := by
  intro d
  induction d with
  | zero =>
    intro i st hi hst
    have e : st = rn_in a_inputs s0 := by
      funext j
      rw [hst j, show i = 6 by omega]; rfl
    rw [e]
    exact br_t (nI_le (a := 6) (by omega) (by omega)) K
  | succ d ih =>
    intro i st hi hst
    refine br_f (nI_ge (b := 6) (by omega) (by omega)) (And.intro (vp_in_nI (by omega) (by omega)) (And.intro (vp_in_nI (by omega) (by omega)) (nm_e (nm_r (nI_1 i) (ih (i + 1) _ (by omega) ?_)))))
    intro j
    rw [nI_clamp (by omega)]
    by_cases e : j = i
    · rw [e, pk_us, if_pos (by omega)]
    · rw [pk_un e, hst j]
      by_cases z : j < i
      · rw [if_pos z, if_pos (by omega)]
      · rw [if_neg z, if_neg (by omega)]
theorem qx_loadInputs {post : SX → Prop} (K : post (f_opOut, f_opBranch, f_opJump, f_cap, f_vars, f_size, f_sealed, f_queued, f_workLen, a_code, a_subject, a_left, a_right, a_dest, a_uses, a_entryCount, a_need, a_sched, a_schedLen, a_held, a_heldLen, a_reached, a_queue, a_work, a_picked, a_inputs, (rn_in a_inputs a_store), a_outs, a_outLen, a_counts)) : wpX_loadInputs post (f_opOut, f_opBranch, f_opJump, f_cap, f_vars, f_size, f_sealed, f_queued, f_workLen, a_code, a_subject, a_left, a_right, a_dest, a_uses, a_entryCount, a_need, a_sched, a_schedLen, a_held, a_heldLen, a_reached, a_queue, a_work, a_picked, a_inputs, a_store, a_outs, a_outLen, a_counts) :=
  ⟨7, qx_li2 (s0 := a_store) K 6 0 a_store (by omega) (fun j => by rw [if_neg (Nat.not_lt_zero j)])⟩
theorem qx_cl12 {post : SX → Prop} {i0 : Nat → Int32} (K : post (f_opOut, f_opBranch, f_opJump, f_cap, f_vars, f_size, f_sealed, f_queued, f_workLen, a_code, a_subject, a_left, a_right, a_dest, a_uses, a_entryCount, a_need, a_sched, a_schedLen, a_held, a_heldLen, a_reached, a_queue, a_work, a_picked, (rn_zi i0), a_store, a_outs, (upd (upd a_outLen 0 0) 1 0), (rn_z 1 (rn_z 0 a_counts)))) :
    ∀ (d i : Nat) (inp : Nat → Int32), i + d = 6 → (∀ j, inp j = if j < i then 0 else i0 j) → wX_clear_12 post f_opOut f_opBranch f_opJump f_cap f_vars f_size f_sealed f_queued f_workLen (d + 1) (nI i) a_code a_subject a_left a_right a_dest a_uses a_entryCount a_need a_sched a_schedLen a_held a_heldLen a_reached a_queue a_work a_picked inp a_store a_outs a_outLen a_counts := by
  intro d
  induction d with
  | zero =>
    intro i inp hi hst
    have e : inp = rn_zi i0 := by
      funext j
      rw [hst j, show i = 6 by omega]; rfl
    rw [e]
    refine br_t (nI_le (a := 6) (by omega) (by omega)) (qx_drop (md := 0) (by omega) ?_)
    exact qx_drop (md := 1) (by omega) K
  | succ d ih =>
    intro i inp hi hst
    refine br_f (nI_ge (b := 6) (by omega) (by omega)) (And.intro (vp_in_nI (by omega) (by omega)) (nm_e (nm_r (nI_1 i) (ih (i + 1) _ (by omega) ?_))))
    intro j
    rw [nI_clamp (by omega)]
    by_cases e : j = i
    · rw [e, pk_us, if_pos (by omega)]
    · rw [pk_un e, hst j]
      by_cases z : j < i
      · rw [if_pos z, if_pos (by omega)]
      · rw [if_neg z, if_neg (by omega)]
theorem qx_clear {post : SX → Prop} (K : post (f_opOut, f_opBranch, f_opJump, f_cap, f_vars, 0, 0, f_queued, f_workLen, a_code, a_subject, a_left, a_right, a_dest, a_uses, a_entryCount, a_need, a_sched, a_schedLen, a_held, a_heldLen, a_reached, a_queue, a_work, a_picked, (rn_zi a_inputs), a_store, a_outs, (upd (upd a_outLen 0 0) 1 0), (rn_z 1 (rn_z 0 a_counts)))) : wpX_clear post (f_opOut, f_opBranch, f_opJump, f_cap, f_vars, f_size, f_sealed, f_queued, f_workLen, a_code, a_subject, a_left, a_right, a_dest, a_uses, a_entryCount, a_need, a_sched, a_schedLen, a_held, a_heldLen, a_reached, a_queue, a_work, a_picked, a_inputs, a_store, a_outs, a_outLen, a_counts) :=
  ⟨7, qx_cl12 (i0 := a_inputs) K 6 0 a_inputs (by omega) (fun j => by rw [if_neg (Nat.not_lt_zero j)])⟩
end
section
variable {g_cap g_vars g_size g_sealed g_waiting g_factCount : Int32} {b_kind b_name b_opOf b_left b_right b_goal b_input b_store b_outs b_outCount b_counts b_list b_leaving b_live b_seen b_facts : Nat → Int32}
theorem qy_r48 {post : Int32 → SY → Prop} {md : Nat} {c0 : Nat → Int32} (hmd : md < 2) (K : ∃ n88, wY_run_88 post (nI md) n88 0 0 g_cap g_vars g_size g_sealed 0 g_factCount b_kind b_name b_opOf b_left b_right b_goal b_input b_store b_outs (upd b_outCount md 0) (rn_z md c0) b_list b_leaving b_live b_seen b_facts) :
    ∀ (d i : Nat) (ct : Nat → Int32), i + d = 20 → (∀ j, ct j = if md * 20 ≤ j ∧ j < md * 20 + i then 0 else c0 j) → wY_run_48 post (nI md) g_cap g_vars g_size g_sealed g_waiting g_factCount (d + 1) (nI i) b_kind b_name b_opOf b_left b_right b_goal b_input b_store b_outs b_outCount ct b_list b_leaving b_live b_seen b_facts := by
  intro d
  induction d with
  | zero =>
    intro i ct hi hct
    have e : ct = rn_z md c0 := by
      funext j
      rw [hct j, show i = 20 by omega]; rfl
    rw [e]
    exact br_t (nI_le (a := 20) (by omega) (by omega)) (And.intro (vp_in_nI hmd (by omega)) (nm_r (e' := upd b_outCount md 0) (by rw [nI_clamp (by omega)]) K))
  | succ d ih =>
    intro i ct hi hct
    refine br_f (nI_ge (b := 20) (by omega) (by omega)) ?_
    rw [nb_m20]
    refine And.intro (vp_in_nI (by omega) (by omega)) (nm_e (nm_r (nI_1 i) (ih (i + 1) _ (by omega) ?_)))
    intro j
    rw [nI_clamp (by omega)]
    by_cases e : j = md * 20 + i
    · rw [e, pk_us, if_pos (by omega)]
    · rw [pk_un e, hct j]
      by_cases z : md * 20 ≤ j ∧ j < md * 20 + i
      · rw [if_pos z, if_pos (by omega)]
      · rw [if_neg z, if_neg (by omega)]
theorem qy_r22 {post : Int32 → SY → Prop} {md : Nat} {s0 : Nat → Int32} (hmd : md < 2) (K : ∃ n88, wY_run_88 post (nI md) n88 0 0 g_cap g_vars g_size g_sealed 0 g_factCount b_kind b_name b_opOf b_left b_right b_goal b_input (rn_in b_input s0) b_outs (upd b_outCount md 0) (rn_z md b_counts) b_list b_leaving b_live b_seen b_facts) :
    ∀ (d i : Nat) (st : Nat → Int32), i + d = 6 → (∀ j, st j = if j < i then b_input j else s0 j) → wY_run_22 post (nI md) g_cap g_vars g_size g_sealed g_waiting g_factCount (d + 1) (nI i) b_kind b_name b_opOf b_left b_right b_goal b_input st b_outs b_outCount b_counts b_list b_leaving b_live b_seen b_facts := by
  intro d
  induction d with
  | zero =>
    intro i st hi hst
    have e : st = rn_in b_input s0 := by
      funext j
      rw [hst j, show i = 6 by omega]; rfl
    rw [e]
    refine br_t (nI_le (a := 6) (by omega) (by omega)) ⟨21, qy_r48 (c0 := b_counts) hmd K 20 0 b_counts (by omega) ?_⟩
    intro j
    rw [if_neg (by omega)]
  | succ d ih =>
    intro i st hi hst
    refine br_f (nI_ge (b := 6) (by omega) (by omega)) (And.intro (vp_in_nI (by omega) (by omega)) (And.intro (vp_in_nI (by omega) (by omega)) (nm_e (nm_r (nI_1 i) (ih (i + 1) _ (by omega) ?_)))))
    intro j
    rw [nI_clamp (by omega)]
    by_cases e : j = i
    · rw [e, pk_us, if_pos (by omega)]
    · rw [pk_un e, hst j]
      by_cases z : j < i
      · rw [if_pos z, if_pos (by omega)]
      · rw [if_neg z, if_neg (by omega)]
theorem qy_run0 {post : Int32 → SY → Prop} {md : Nat} (hmd : md < 2) (K : ∃ n88, wY_run_88 post (nI md) n88 0 0 g_cap g_vars g_size g_sealed 0 g_factCount b_kind b_name b_opOf b_left b_right b_goal b_input (rn_in b_input b_store) b_outs (upd b_outCount md 0) (rn_z md b_counts) b_list b_leaving b_live b_seen b_facts) :
    ∃ n22, wY_run_22 post (nI md) g_cap g_vars g_size g_sealed g_waiting g_factCount n22 0 b_kind b_name b_opOf b_left b_right b_goal b_input b_store b_outs b_outCount b_counts b_list b_leaving b_live b_seen b_facts :=
  ⟨7, qy_r22 (s0 := b_store) hmd K 6 0 b_store (by omega) (fun j => by rw [if_neg (Nat.not_lt_zero j)])⟩
theorem qy_cl38 {post : SY → Prop} {c0 : Nat → Int32} (K : post (g_cap, g_vars, g_size, g_sealed, g_waiting, g_factCount, b_kind, b_name, b_opOf, b_left, b_right, b_goal, b_input, b_store, b_outs, (upd (upd b_outCount 0 0) 1 0), (rn_z 1 (rn_z 0 c0)), b_list, b_leaving, b_live, b_seen, b_facts)) :
    ∀ (d i : Nat) (ct : Nat → Int32), i + d = 40 → (∀ j, ct j = if j < i then 0 else c0 j) → wY_clear_38 post g_cap g_vars g_size g_sealed g_waiting g_factCount (d + 1) (nI i) b_kind b_name b_opOf b_left b_right b_goal b_input b_store b_outs b_outCount ct b_list b_leaving b_live b_seen b_facts := by
  intro d
  induction d with
  | zero =>
    intro i ct hi hct
    have e : ct = rn_z 1 (rn_z 0 c0) := by
      funext j
      rw [hct j]
      unfold rn_z
      by_cases z : j < i
      · rw [if_pos z]
        by_cases y : 1 * 20 ≤ j ∧ j < 1 * 20 + 20
        · rw [if_pos y]
        · rw [if_neg y, if_pos (by omega)]
      · rw [if_neg z, if_neg (by omega), if_neg (by omega)]
    rw [e]
    exact br_t (nI_le (a := 40) (by omega) (by omega)) (nm_e (nm_e K))
  | succ d ih =>
    intro i ct hi hct
    refine br_f (nI_ge (b := 40) (by omega) (by omega)) (And.intro (vp_in_nI (by omega) (by omega)) (nm_e (nm_r (nI_1 i) (ih (i + 1) _ (by omega) ?_))))
    intro j
    rw [nI_clamp (by omega)]
    by_cases e : j = i
    · rw [e, pk_us, if_pos (by omega)]
    · rw [pk_un e, hct j]
      by_cases z : j < i
      · rw [if_pos z, if_pos (by omega)]
      · rw [if_neg z, if_neg (by omega)]
theorem qy_cl17 {post : SY → Prop} {i0 : Nat → Int32} (K : post (g_cap, g_vars, g_size, g_sealed, g_waiting, g_factCount, b_kind, b_name, b_opOf, b_left, b_right, b_goal, (rn_zi i0), b_store, b_outs, (upd (upd b_outCount 0 0) 1 0), (rn_z 1 (rn_z 0 b_counts)), b_list, b_leaving, b_live, b_seen, b_facts)) :
    ∀ (d i : Nat) (inp : Nat → Int32), i + d = 6 → (∀ j, inp j = if j < i then 0 else i0 j) → wY_clear_17 post g_cap g_vars g_size g_sealed g_waiting g_factCount (d + 1) (nI i) b_kind b_name b_opOf b_left b_right b_goal inp b_store b_outs b_outCount b_counts b_list b_leaving b_live b_seen b_facts := by
  intro d
  induction d with
  | zero =>
    intro i inp hi hst
    have e : inp = rn_zi i0 := by
      funext j
      rw [hst j, show i = 6 by omega]; rfl
    rw [e]
    exact br_t (nI_le (a := 6) (by omega) (by omega)) ⟨41, qy_cl38 (c0 := b_counts) K 40 0 b_counts (by omega) (fun j => by rw [if_neg (Nat.not_lt_zero j)])⟩
  | succ d ih =>
    intro i inp hi hst
    refine br_f (nI_ge (b := 6) (by omega) (by omega)) (And.intro (vp_in_nI (by omega) (by omega)) (nm_e (nm_r (nI_1 i) (ih (i + 1) _ (by omega) ?_))))
    intro j
    rw [nI_clamp (by omega)]
    by_cases e : j = i
    · rw [e, pk_us, if_pos (by omega)]
    · rw [pk_un e, hst j]
      by_cases z : j < i
      · rw [if_pos z, if_pos (by omega)]
      · rw [if_neg z, if_neg (by omega)]
theorem qy_clear {post : SY → Prop} (K : post (g_cap, g_vars, 0, 0, 0, g_factCount, b_kind, b_name, b_opOf, b_left, b_right, b_goal, (rn_zi b_input), b_store, b_outs, (upd (upd b_outCount 0 0) 1 0), (rn_z 1 (rn_z 0 b_counts)), b_list, b_leaving, b_live, b_seen, b_facts)) : wpY_clear post (g_cap, g_vars, g_size, g_sealed, g_waiting, g_factCount, b_kind, b_name, b_opOf, b_left, b_right, b_goal, b_input, b_store, b_outs, b_outCount, b_counts, b_list, b_leaving, b_live, b_seen, b_facts) :=
  ⟨7, qy_cl17 (i0 := b_input) K 6 0 b_input (by omega) (fun j => by rw [if_neg (Nat.not_lt_zero j)])⟩
end
end
section
/-! ===== the relation ===== -/
def rl_F (P : pg_T) (cap : Nat) (fs : Int32) (c s l r d u k m o bl br g ol E nd sc sl : Nat → Int32) : Prop :=
  pg_ok P ∧ (4 ≤ cap ∧ cap ≤ 20 ∧ pg_sz P ≤ cap) ∧ pg_X P c s l r d u ∧ pg_Y P k m o bl br g ∧ (∀ i, i < 2 → ∃ n, n ≤ 96 ∧ ol i = nI n) ∧
  (¬ fs = 0 → (∀ m, m < pg_sz P → E m = nI (pg_en P m)) ∧ (∀ n w, n < pg_sz P → w < 32 → (bt (nd n) w = true ↔ nd_N P n w)) ∧ rl_C P sc sl)
/-- one program on both sides; inputs, stores and results the same; sealed: entries, needs and the schedule are right -/
def i_Rel (_ : Nat) (u : SX) (v : SY) : Prop := match u with
  | (f_opOut, f_opBranch, f_opJump, f_cap, f_vars, f_size, f_sealed, f_queued, f_workLen, a_code, a_subject, a_left, a_right, a_dest, a_uses, a_entryCount, a_need, a_sched, a_schedLen, a_held, a_heldLen, a_reached, a_queue, a_work, a_picked, a_inputs, a_store, a_outs, a_outLen, a_counts) => match v with
    | (g_cap, g_vars, g_size, g_sealed, g_waiting, g_factCount, b_kind, b_name, b_opOf, b_left, b_right, b_goal, b_input, b_store, b_outs, b_outCount, b_counts, b_list, b_leaving, b_live, b_seen, b_facts) => ∃ (P : pg_T) (cap : Nat), (nI cap = f_cap ∧ nI (pg_vs P) = f_vars ∧ nI (pg_sz P) = f_size ∧ nI cap = g_cap ∧ nI (pg_vs P) = g_vars ∧ nI (pg_sz P) = g_size ∧ f_sealed = g_sealed ∧ a_inputs = b_input ∧ a_store = b_store ∧ a_outs = b_outs ∧ a_outLen = b_outCount ∧ a_counts = b_counts) ∧
      rl_F P cap f_sealed a_code a_subject a_left a_right a_dest a_uses b_kind b_name b_opOf b_left b_right b_goal a_outLen a_entryCount a_need a_sched a_schedLen
theorem i_up {k : Nat} {u : SX} {v : SY} (h : i_Rel k u v) : i_Rel (k + 5) u v := h
section
variable {f_opOut f_opBranch f_opJump f_cap f_vars f_size f_sealed f_queued f_workLen : Int32} {a_code a_subject a_left a_right a_dest a_uses a_entryCount a_need a_sched a_schedLen a_held a_heldLen a_reached a_queue a_work a_picked a_inputs a_store a_outs a_outLen a_counts : Nat → Int32}
variable {g_cap g_vars g_size g_sealed g_waiting g_factCount : Int32} {b_kind b_name b_opOf b_left b_right b_goal b_input b_store b_outs b_outCount b_counts b_list b_leaving b_live b_seen b_facts : Nat → Int32}
variable {P : pg_T}
theorem rl_in {k cap : Nat} (h : rl_F P cap f_sealed a_code a_subject a_left a_right a_dest a_uses b_kind b_name b_opOf b_left b_right b_goal a_outLen a_entryCount a_need a_sched a_schedLen) :
    i_Rel k (f_opOut, f_opBranch, f_opJump, (nI cap), (nI (pg_vs P)), (nI (pg_sz P)), f_sealed, f_queued, f_workLen, a_code, a_subject, a_left, a_right, a_dest, a_uses, a_entryCount, a_need, a_sched, a_schedLen, a_held, a_heldLen, a_reached, a_queue, a_work, a_picked, a_inputs, a_store, a_outs, a_outLen, a_counts) ((nI cap), (nI (pg_vs P)), (nI (pg_sz P)), f_sealed, g_waiting, g_factCount, b_kind, b_name, b_opOf, b_left, b_right, b_goal, a_inputs, a_store, a_outs, a_outLen, a_counts, b_list, b_leaving, b_live, b_seen, b_facts) :=
  ⟨P, cap, ⟨rfl, rfl, rfl, rfl, rfl, rfl, rfl, rfl, rfl, rfl, rfl, rfl⟩, h⟩
end
theorem rl_el {k : Nat} {u : SX} {v : SY} {Q : SX → SY → Prop}
    (h : ∀ (P : pg_T) (cap : Nat) (f_opOut f_opBranch f_opJump f_sealed f_queued f_workLen : Int32) (a_code a_subject a_left a_right a_dest a_uses a_entryCount a_need a_sched a_schedLen a_held a_heldLen a_reached a_queue a_work a_picked a_inputs a_store a_outs a_outLen a_counts : Nat → Int32) (g_waiting g_factCount : Int32) (b_kind b_name b_opOf b_left b_right b_goal b_list b_leaving b_live b_seen b_facts : Nat → Int32),
      rl_F P cap f_sealed a_code a_subject a_left a_right a_dest a_uses b_kind b_name b_opOf b_left b_right b_goal a_outLen a_entryCount a_need a_sched a_schedLen →
      Q (f_opOut, f_opBranch, f_opJump, (nI cap), (nI (pg_vs P)), (nI (pg_sz P)), f_sealed, f_queued, f_workLen, a_code, a_subject, a_left, a_right, a_dest, a_uses, a_entryCount, a_need, a_sched, a_schedLen, a_held, a_heldLen, a_reached, a_queue, a_work, a_picked, a_inputs, a_store, a_outs, a_outLen, a_counts) ((nI cap), (nI (pg_vs P)), (nI (pg_sz P)), f_sealed, g_waiting, g_factCount, b_kind, b_name, b_opOf, b_left, b_right, b_goal, a_inputs, a_store, a_outs, a_outLen, a_counts, b_list, b_leaving, b_live, b_seen, b_facts))
    (I : i_Rel k u v) : Q u v := by
  obtain ⟨f_opOut, f_opBranch, f_opJump, f_cap, f_vars, f_size, f_sealed, f_queued, f_workLen, a_code, a_subject, a_left, a_right, a_dest, a_uses, a_entryCount, a_need, a_sched, a_schedLen, a_held, a_heldLen, a_reached, a_queue, a_work, a_picked, a_inputs, a_store, a_outs, a_outLen, a_counts⟩ := u
  obtain ⟨g_cap, g_vars, g_size, g_sealed, g_waiting, g_factCount, b_kind, b_name, b_opOf, b_left, b_right, b_goal, b_input, b_store, b_outs, b_outCount, b_counts, b_list, b_leaving, b_live, b_seen, b_facts⟩ := v
  obtain ⟨P, cap, ⟨e1, e2, e3, e4, e5, e6, e7, e8, e9, e10, e11, e12⟩, hF⟩ := I
  subst e1 e2 e3 e4 e5 e6 e7 e8 e9 e10 e11 e12
  exact h P cap _ _ _ _ _ _ a_code a_subject a_left a_right a_dest a_uses a_entryCount a_need a_sched a_schedLen a_held a_heldLen a_reached a_queue a_work a_picked a_inputs a_store a_outs a_outLen a_counts _ _ b_kind b_name b_opOf b_left b_right b_goal b_list b_leaving b_live b_seen b_facts hF
/-! ===== one more node ===== -/
def pg_app (P : pg_T) (k v t o : Nat) (lf rt : Int32) : pg_T := (pg_sz P + 1, pg_vs P, fun j => if j = pg_sz P then k else pg_kd P j, fun j => if j = pg_sz P then v else pg_nm P j, fun j => if j = pg_sz P then t else pg_tg P j, fun j => if j = pg_sz P then o else pg_op P j, fun j => if j = pg_sz P then lf else pg_lf P j, fun j => if j = pg_sz P then rt else pg_rt P j)
section
variable {P : pg_T} {k v t o : Nat} {lf rt : Int32} {j : Nat}
theorem ap_kd (h : j ≠ pg_sz P) : pg_kd (pg_app P k v t o lf rt) j = pg_kd P j := if_neg h
theorem ap_nm (h : j ≠ pg_sz P) : pg_nm (pg_app P k v t o lf rt) j = pg_nm P j := if_neg h
theorem ap_tg (h : j ≠ pg_sz P) : pg_tg (pg_app P k v t o lf rt) j = pg_tg P j := if_neg h
theorem ap_op (h : j ≠ pg_sz P) : pg_op (pg_app P k v t o lf rt) j = pg_op P j := if_neg h
theorem ap_lf (h : j ≠ pg_sz P) : pg_lf (pg_app P k v t o lf rt) j = pg_lf P j := if_neg h
theorem ap_rt (h : j ≠ pg_sz P) : pg_rt (pg_app P k v t o lf rt) j = pg_rt P j := if_neg h
theorem ap_kd0 : pg_kd (pg_app P k v t o lf rt) (pg_sz P) = k := if_pos rfl
theorem ap_nm0 : pg_nm (pg_app P k v t o lf rt) (pg_sz P) = v := if_pos rfl
theorem ap_tg0 : pg_tg (pg_app P k v t o lf rt) (pg_sz P) = t := if_pos rfl
theorem ap_op0 : pg_op (pg_app P k v t o lf rt) (pg_sz P) = o := if_pos rfl
theorem ap_lf0 : pg_lf (pg_app P k v t o lf rt) (pg_sz P) = lf := if_pos rfl
theorem ap_rt0 : pg_rt (pg_app P k v t o lf rt) (pg_sz P) = rt := if_pos rfl
theorem ap_sz : pg_sz (pg_app P k v t o lf rt) = pg_sz P + 1 := rfl
theorem ap_vs : pg_vs (pg_app P k v t o lf rt) = pg_vs P := rfl
theorem ap_ok (ok : pg_ok P) (h20 : pg_sz P < 20) (hk : k < 4) (hv : v < pg_vs P) (ht : t ≤ 20) (hs : k = 0 → o < 5 ∧ (o ≠ 0 → ∃ a, a < pg_vs P ∧ lf = nI a) ∧ (o ≠ 0 → o ≠ 4 → ∃ b, b < pg_vs P ∧ rt = nI b)) : pg_ok (pg_app P k v t o lf rt) := by
  refine ⟨by rw [ap_sz]; omega, ok.2.1, ok.2.2.1, ?_⟩
  intro n hn
  rw [ap_sz] at hn
  by_cases e : n = pg_sz P
  · rw [e, ap_kd0, ap_nm0, ap_tg0, ap_op0, ap_lf0, ap_rt0]
    exact ⟨hk, hv, ht, hs⟩
  · rw [ap_kd e, ap_nm e, ap_tg e, ap_op e, ap_lf e, ap_rt e]
    exact ok.2.2.2 n (by omega)
theorem ap_rd {w : Nat} (h : j ≠ pg_sz P) : pg_rd (pg_app P k v t o lf rt) j w ↔ pg_rd P j w := by
  unfold pg_rd
  rw [ap_kd h, ap_op h, ap_lf h, ap_rt h]
  exact Iff.rfl
theorem ap_cd (h : j ≠ pg_sz P) : pg_cd (pg_app P k v t o lf rt) j = pg_cd P j := by
  unfold pg_cd
  rw [ap_kd h, ap_op h]
theorem rl_app {cap cd : Nat} {fs : Int32} {c s l r d u km m om bl br g ol E nd sc sl l1 r1 u1 : Nat → Int32} (hF : rl_F P cap fs c s l r d u km m om bl br g ol E nd sc sl) (hs : fs = 0) (hc : pg_sz P < cap) (hk : k < 4) (hv : v < pg_vs P) (ht : t ≤ 20)
    (hset : k = 0 → o < 5 ∧ (o ≠ 0 → ∃ a, a < pg_vs P ∧ lf = nI a) ∧ (o ≠ 0 → o ≠ 4 → ∃ b, b < pg_vs P ∧ rt = nI b)) (hcd : cd = if k = 0 then o else k + 4)
    (hl1 : ∀ n, n < pg_sz P → l1 n = l n) (hr1 : ∀ n, n < pg_sz P → r1 n = r n) (hu1 : ∀ n, n < pg_sz P → u1 n = u n)
    (hset2 : k = 0 → l1 (pg_sz P) = lf ∧ r1 (pg_sz P) = rt ∧ ∀ w, w < 32 → (bt (u1 (pg_sz P)) w = true ↔ w < pg_vs P ∧ o ≠ 0 ∧ (lf = nI w ∨ (o ≠ 4 ∧ rt = nI w)))) :
    rl_F (pg_app P k v t o lf rt) cap fs (upd c (pg_sz P) (nI cd)) (upd s (pg_sz P) (nI v)) l1 r1 (upd d (pg_sz P) (nI t)) u1 (upd km (pg_sz P) (nI k)) (upd m (pg_sz P) (nI v)) (upd om (pg_sz P) (nI o)) (upd bl (pg_sz P) lf) (upd br (pg_sz P) rt) (upd g (pg_sz P) (nI t)) ol E nd sc sl := by
  obtain ⟨ok, ⟨c4, c20, csz⟩, pX, pY, hol, hS⟩ := hF
  refine ⟨ap_ok ok (by omega) hk hv ht hset, ⟨c4, c20, by rw [ap_sz]; omega⟩, ?_, ?_, hol, fun z => absurd hs z⟩
  · intro n hn
    rw [ap_sz] at hn
    by_cases e : n = pg_sz P
    · subst e
      rw [pk_us, pk_us, pk_us, ap_kd0, ap_nm0, ap_tg0, ap_lf0, ap_rt0]
      refine ⟨?_, rfl, rfl, fun h0 => ?_⟩
      · unfold pg_cd
        rw [ap_kd0, ap_op0, hcd]
      · obtain ⟨a1, a2, a3⟩ := hset2 h0
        refine ⟨a1, a2, fun w hw => ?_⟩
        rw [a3 w hw]
        unfold pg_rd
        rw [ap_kd0, ap_op0, ap_lf0, ap_rt0, ap_vs]
        constructor
        · rintro ⟨b1, b2, b3⟩; exact ⟨b1, h0, b2, b3⟩
        · rintro ⟨b1, _, b2, b3⟩; exact ⟨b1, b2, b3⟩
    · rw [pk_un e, pk_un e, pk_un e, ap_cd e, ap_nm e, ap_tg e, ap_kd e, ap_lf e, ap_rt e, hl1 n (by omega), hr1 n (by omega), hu1 n (by omega)]
      obtain ⟨a1, a2, a3, a4⟩ := pX n (by omega)
      refine ⟨a1, a2, a3, fun h0 => ?_⟩
      obtain ⟨b1, b2, b3⟩ := a4 h0
      exact ⟨b1, b2, fun w hw => (b3 w hw).trans (ap_rd e).symm⟩
  · intro n hn
    rw [ap_sz] at hn
    by_cases e : n = pg_sz P
    · subst e
      rw [pk_us, pk_us, pk_us, pk_us, pk_us, pk_us, ap_kd0, ap_nm0, ap_tg0, ap_op0, ap_lf0, ap_rt0]
      exact ⟨rfl, rfl, rfl, fun _ => ⟨rfl, rfl, rfl⟩⟩
    · rw [pk_un e, pk_un e, pk_un e, pk_un e, pk_un e, pk_un e, ap_kd e, ap_nm e, ap_tg e, ap_op e, ap_lf e, ap_rt e]
      exact pY n (by omega)
end
/-! ===== feeding, the small steps ===== -/
section
variable {f_opOut f_opBranch f_opJump f_cap f_vars f_size f_sealed f_queued f_workLen : Int32} {a_code a_subject a_left a_right a_dest a_uses a_entryCount a_need a_sched a_schedLen a_held a_heldLen a_reached a_queue a_work a_picked a_inputs a_store a_outs a_outLen a_counts : Nat → Int32}
theorem qx_append {post : Int32 → SX → Prop} {n : Nat} {p0 p1 p2 : Int32} (hn : n < 20) (K : post (nI n) (f_opOut, f_opBranch, f_opJump, f_cap, f_vars, (nI (n + 1)), f_sealed, f_queued, f_workLen, (upd a_code n p0), (upd a_subject n p1), a_left, a_right, (upd a_dest n p2), a_uses, a_entryCount, a_need, a_sched, a_schedLen, a_held, a_heldLen, a_reached, a_queue, a_work, a_picked, a_inputs, a_store, a_outs, a_outLen, a_counts)) : wpX_append post (f_opOut, f_opBranch, f_opJump, f_cap, f_vars, (nI n), f_sealed, f_queued, f_workLen, a_code, a_subject, a_left, a_right, a_dest, a_uses, a_entryCount, a_need, a_sched, a_schedLen, a_held, a_heldLen, a_reached, a_queue, a_work, a_picked, a_inputs, a_store, a_outs, a_outLen, a_counts) p0 p1 p2 := by
  have hi : vp_in (nI n) 20 := vp_in_nI hn (by omega)
  refine And.intro hi (nm_r (e' := upd a_code n p0) (by rw [nI_clamp (by omega)]) (And.intro hi (nm_r (e' := upd a_subject n p1) (by rw [nI_clamp (by omega)]) (And.intro hi (nm_r (e' := upd a_dest n p2) (by rw [nI_clamp (by omega)]) (nm_r (nI_1 n) K))))))
end
section
variable {g_cap g_vars g_size g_sealed g_waiting g_factCount : Int32} {b_kind b_name b_opOf b_left b_right b_goal b_input b_store b_outs b_outCount b_counts b_list b_leaving b_live b_seen b_facts : Nat → Int32}
theorem qy_append {post : Int32 → SY → Prop} {n : Nat} {p0 p1 p2 p3 p4 p5 : Int32} (hn : n < 20) (K : post (nI n) (g_cap, g_vars, (nI (n + 1)), g_sealed, g_waiting, g_factCount, (upd b_kind n p0), (upd b_name n p1), (upd b_opOf n p2), (upd b_left n p3), (upd b_right n p4), (upd b_goal n p5), b_input, b_store, b_outs, b_outCount, b_counts, b_list, b_leaving, b_live, b_seen, b_facts)) : wpY_append post (g_cap, g_vars, (nI n), g_sealed, g_waiting, g_factCount, b_kind, b_name, b_opOf, b_left, b_right, b_goal, b_input, b_store, b_outs, b_outCount, b_counts, b_list, b_leaving, b_live, b_seen, b_facts) p0 p1 p2 p3 p4 p5 := by
  have hi : vp_in (nI n) 20 := vp_in_nI hn (by omega)
  refine And.intro hi (nm_r (e' := upd b_kind n p0) (by rw [nI_clamp (by omega)]) (And.intro hi (nm_r (e' := upd b_name n p1) (by rw [nI_clamp (by omega)]) (And.intro hi (nm_r (e' := upd b_opOf n p2) (by rw [nI_clamp (by omega)]) (And.intro hi (nm_r (e' := upd b_left n p3) (by rw [nI_clamp (by omega)]) (And.intro hi (nm_r (e' := upd b_right n p4) (by rw [nI_clamp (by omega)]) (And.intro hi (nm_r (e' := upd b_goal n p5) (by rw [nI_clamp (by omega)]) (nm_r (nI_1 n) ?_))))))))))))
  rw [nI_pred]
  exact K
end
/-! ===== totals ===== -/
def rn_t (ct : Nat → Int32) (md : Nat) : Nat → Nat → Int32 → Int32
  | 0, _, s => s
  | d + 1, i, s => rn_t ct md d (i + 1) (s + ct (md * 20 + i))
section
variable {f_opOut f_opBranch f_opJump f_cap f_vars f_size f_sealed f_queued f_workLen : Int32} {a_code a_subject a_left a_right a_dest a_uses a_entryCount a_need a_sched a_schedLen a_held a_heldLen a_reached a_queue a_work a_picked a_inputs a_store a_outs a_outLen a_counts : Nat → Int32}
theorem qx_total {post : Int32 → Prop} {md n : Nat} (hmd : md < 2) (hn : n ≤ 20) : ∀ (d i : Nat) (s : Int32), i + d = n → post (rn_t a_counts md d i s) → wX_total_14 post (nI md) f_opOut f_opBranch f_opJump f_cap f_vars (nI n) f_sealed f_queued f_workLen a_code a_subject a_left a_right a_dest a_uses a_entryCount a_need a_sched a_schedLen a_held a_heldLen a_reached a_queue a_work a_picked a_inputs a_store a_outs a_outLen a_counts (d + 1) s (nI i) := by
  intro d
  induction d with
  | zero =>
    intro i s hi K
    exact br_t (nI_le (by omega) (by omega)) K
  | succ d ih =>
    intro i s hi K
    refine br_f (nI_ge (by omega) (by omega)) ?_
    rw [nb_m20]
    refine And.intro (vp_in_nI (by omega) (by omega)) ?_
    rw [nI_clamp (by omega)]
    exact nm_e (nm_r (nI_1 i) (ih (i + 1) _ (by omega) K))
end
section
variable {g_cap g_vars g_size g_sealed g_waiting g_factCount : Int32} {b_kind b_name b_opOf b_left b_right b_goal b_input b_store b_outs b_outCount b_counts b_list b_leaving b_live b_seen b_facts : Nat → Int32}
theorem qy_total {post : Int32 → Prop} {md n : Nat} (hmd : md < 2) (hn : n ≤ 20) : ∀ (d i : Nat) (s : Int32), i + d = n → post (rn_t b_counts md d i s) → wY_total_14 post (nI md) g_cap g_vars (nI n) g_sealed g_waiting g_factCount b_kind b_name b_opOf b_left b_right b_goal b_input b_store b_outs b_outCount b_counts b_list b_leaving b_live b_seen b_facts (d + 1) s (nI i) := by
  intro d
  induction d with
  | zero =>
    intro i s hi K
    exact br_t (nI_le (by omega) (by omega)) K
  | succ d ih =>
    intro i s hi K
    refine br_f (nI_ge (by omega) (by omega)) ?_
    rw [nb_m20]
    refine And.intro (vp_in_nI (by omega) (by omega)) ?_
    rw [nI_clamp (by omega)]
    exact nm_e (nm_r (nI_1 i) (ih (i + 1) _ (by omega) K))
end
end
section
/-! ===== the constructors ===== -/
theorem rl_0 {cap vs : Nat} (h4 : 4 ≤ cap) (h20 : cap ≤ 20) (h2 : 2 ≤ vs) (h6 : vs ≤ 6) : i_Rel 2 (5, 6, 7, nI cap, nI vs, 0, 0, 0, 0, (fun _ => 0), (fun _ => 0), (fun _ => 0), (fun _ => 0), (fun _ => 0), (fun _ => 0), (fun _ => 0), (fun _ => 0), (fun _ => 0), (fun _ => 0), (fun _ => 0), (fun _ => 0), (fun _ => 0), (fun _ => 0), (fun _ => 0), (fun _ => 0), (fun _ => 0), (fun _ => 0), (fun _ => 0), (fun _ => 0), (fun _ => 0)) (nI cap, nI vs, 0, 0, 0, 0, (fun _ => 0), (fun _ => 0), (fun _ => 0), (fun _ => 0), (fun _ => 0), (fun _ => 0), (fun _ => 0), (fun _ => 0), (fun _ => 0), (fun _ => 0), (fun _ => 0), (fun _ => 0), (fun _ => 0), (fun _ => 0), (fun _ => 0), (fun _ => 0)) := by
  refine rl_in (P := (0, vs, fun _ => 0, fun _ => 0, fun _ => 0, fun _ => 0, fun _ => 0, fun _ => 0)) ⟨⟨Nat.zero_le _, h2, h6, fun n hn => absurd hn (Nat.not_lt_zero n)⟩, ⟨h4, h20, Nat.zero_le _⟩, fun n hn => absurd hn (Nat.not_lt_zero n), fun n hn => absurd hn (Nat.not_lt_zero n), fun i _ => ⟨0, by omega, rfl⟩, fun z => absurd rfl z⟩
theorem rl_cl {x : Int32} {lo hi : Nat} (hhi : hi < 2 ^ 31) (h1 : nI lo ≤ x) (h2 : x ≤ nI hi) (hl : lo ≤ hi) : ∃ j, lo ≤ j ∧ j ≤ hi ∧ x = nI j := by
  have h0 : ¬ x < 0 := by
    have := nI_pos' (n := lo) (by omega)
    exact Int32.not_lt.mpr (Int32.le_trans this h1)
  obtain ⟨j, hj, rfl⟩ := nI_of h0
  rw [nI_leI (by omega) hj] at h1
  rw [nI_leI hj hhi] at h2
  exact ⟨j, h1, h2, rfl⟩
theorem i_vc0 (k0 : Int32) (k1 : Int32) : wpX_init (fun u => wpY_init (fun v => i_Rel 2 u v) k0 k1) k0 k1 := by
  have c2 : ∀ cap : Nat, 4 ≤ cap → cap ≤ 20 →
      (2 ≤ k1 → k1 ≤ 6 → ∃ vs, 2 ≤ vs ∧ vs ≤ 6 ∧ k1 = nI vs) := by
    intro cap _ _ a b
    exact rl_cl (lo := 2) (hi := 6) (by omega) a b (by omega)
  by_cases a : 4 ≤ k0
  · by_cases b : k0 ≤ 20
    · obtain ⟨cap, h4, h20, rfl⟩ := rl_cl (lo := 4) (hi := 20) (by omega) a b (by omega)
      refine br_t a (br_t b ?_)
      by_cases c : 2 ≤ k1
      · by_cases d : k1 ≤ 6
        · obtain ⟨vs, h2, h6, rfl⟩ := c2 cap h4 h20 c d
          exact br_t c (br_t d (br_t a (br_t b (br_t c (br_t d (rl_0 h4 h20 h2 h6))))))
        · exact br_t c (br_f d (br_t a (br_t b (br_t c (br_f d (rl_0 (vs := 6) h4 h20 (by omega) (by omega)))))))
      · exact br_f c (br_t a (br_t b (br_f c (rl_0 (vs := 2) h4 h20 (by omega) (by omega)))))
    · refine br_t a (br_f b ?_)
      by_cases c : 2 ≤ k1
      · by_cases d : k1 ≤ 6
        · obtain ⟨vs, h2, h6, rfl⟩ := c2 20 (by omega) (by omega) c d
          exact br_t c (br_t d (br_t a (br_f b (br_t c (br_t d (rl_0 (cap := 20) (by omega) (by omega) h2 h6))))))
        · exact br_t c (br_f d (br_t a (br_f b (br_t c (br_f d (rl_0 (cap := 20) (vs := 6) (by omega) (by omega) (by omega) (by omega)))))))
      · exact br_f c (br_t a (br_f b (br_f c (rl_0 (cap := 20) (vs := 2) (by omega) (by omega) (by omega) (by omega)))))
  · refine br_f a ?_
    by_cases c : 2 ≤ k1
    · by_cases d : k1 ≤ 6
      · obtain ⟨vs, h2, h6, rfl⟩ := c2 20 (by omega) (by omega) c d
        exact br_t c (br_t d (br_f a (br_t c (br_t d (rl_0 (cap := 4) (by omega) (by omega) h2 h6)))))
      · exact br_t c (br_f d (br_f a (br_t c (br_f d (rl_0 (cap := 4) (vs := 6) (by omega) (by omega) (by omega) (by omega))))))
    · exact br_f c (br_f a (br_f c (rl_0 (cap := 4) (vs := 2) (by omega) (by omega) (by omega) (by omega))))
/-! ===== feeding ===== -/
theorem fd_2 : ¬ (-2 : Int32) = 0 := by decide
theorem fd_3 : ¬ (-3 : Int32) = 0 := by decide
theorem i_vc_emit {k : Nat} {u : SX} {v : SY} (I : i_Rel k u v) (hk : k + 5 ≤ 2562) (v1 : Int32) : wpX_emit (fun r u' => wpY_emit (fun r' v' => r' = r ∧ i_Rel (k + 5) u' v') v v1) u v1 := by
  refine rl_el (Q := fun u v => wpX_emit (fun r u' => wpY_emit (fun r' v' => r' = r ∧ i_Rel (k + 5) u' v') v v1) u v1) ?_ I
  intro P cap f_opOut f_opBranch f_opJump f_sealed f_queued f_workLen a_code a_subject a_left a_right a_dest a_uses a_entryCount a_need a_sched a_schedLen a_held a_heldLen a_reached a_queue a_work a_picked a_inputs a_store a_outs a_outLen a_counts g_waiting g_factCount b_kind b_name b_opOf b_left b_right b_goal b_list b_leaving b_live b_seen b_facts hF
  have hF' := hF
  obtain ⟨ok, ⟨c4, c20, csz⟩, pX, pY, hol, hS⟩ := hF'
  have h6 := pg_vs6 ok
  by_cases hs : f_sealed = 0
  · by_cases hc : pg_sz P < cap
    · have hlt : nI (pg_sz P) < nI cap := nI_lt hc (by omega)
      rcases pk_ix v1 (n := pg_vs P) (by omega) with h | h | ⟨j, hj, rfl⟩
      · exact br_t hs (br_t hlt (br_t rfl (br_t h (br_t rfl (br_t hs (br_t hlt (br_t h (br_t rfl ⟨rfl, rl_in hF⟩))))))))
      · have h0 : ¬ v1 < 0 := Int32.not_lt.mpr (Int32.le_trans (nI_pos' (by omega)) h)
        exact br_t hs (br_t hlt (br_t rfl (br_f h0 (br_t h (br_t rfl (br_t hs (br_t hlt (br_f h0 (br_t h (br_t rfl ⟨rfl, rl_in hF⟩))))))))))
      · have h0 : ¬ nI j < 0 := nI_pos (by omega)
        have h1 : ¬ nI (pg_vs P) ≤ nI j := nI_ge hj (by omega)
        refine br_t hs (br_t hlt (br_t rfl (br_f h0 (br_f h1 (br_f bb_10 (qx_append (by omega) ?_))))))
        refine br_t hs (br_t hlt (br_f h0 (br_f h1 (br_f bb_10 (qy_append (by omega) ⟨rfl, ?_⟩)))))
        exact rl_in (P := pg_app P 1 j 0 0 0 0) (rl_app (cd := 5) hF hs hc (by omega) hj (by omega) (fun z => absurd z (by decide)) rfl (fun _ _ => rfl) (fun _ _ => rfl) (fun _ _ => rfl) (fun z => absurd z (by decide)))
    · have hlt : ¬ nI (pg_sz P) < nI cap := nI_nlt (by omega) (by omega)
      exact br_t hs (br_f hlt (br_f fd_2 (br_t hs (br_f hlt ⟨rfl, rl_in hF⟩))))
  · exact br_f hs (br_f fd_3 (br_f hs ⟨rfl, rl_in hF⟩))
theorem i_vc_branch {k : Nat} {u : SX} {v : SY} (I : i_Rel k u v) (hk : k + 5 ≤ 2562) (v1 : Int32) (v2 : Int32) : wpX_branch (fun r u' => wpY_branch (fun r' v' => r' = r ∧ i_Rel (k + 5) u' v') v v1 v2) u v1 v2 := by
  refine rl_el (Q := fun u v => wpX_branch (fun r u' => wpY_branch (fun r' v' => r' = r ∧ i_Rel (k + 5) u' v') v v1 v2) u v1 v2) ?_ I
  intro P cap f_opOut f_opBranch f_opJump f_sealed f_queued f_workLen a_code a_subject a_left a_right a_dest a_uses a_entryCount a_need a_sched a_schedLen a_held a_heldLen a_reached a_queue a_work a_picked a_inputs a_store a_outs a_outLen a_counts g_waiting g_factCount b_kind b_name b_opOf b_left b_right b_goal b_list b_leaving b_live b_seen b_facts hF
  have hF' := hF
  obtain ⟨ok, ⟨c4, c20, csz⟩, pX, pY, hol, hS⟩ := hF'
  have h6 := pg_vs6 ok
  by_cases hs : f_sealed = 0
  · by_cases hc : pg_sz P < cap
    · have hlt : nI (pg_sz P) < nI cap := nI_lt hc (by omega)
      rcases pk_ix v1 (n := pg_vs P) (by omega) with h | h | ⟨j, hj, rfl⟩
      · exact br_t hs (br_t hlt (br_t rfl (br_t h (br_t rfl (br_t hs (br_t hlt (br_t h (br_t rfl ⟨rfl, rl_in hF⟩))))))))
      · have h0 : ¬ v1 < 0 := Int32.not_lt.mpr (Int32.le_trans (nI_pos' (by omega)) h)
        exact br_t hs (br_t hlt (br_t rfl (br_f h0 (br_t h (br_t rfl (br_t hs (br_t hlt (br_f h0 (br_t h (br_t rfl ⟨rfl, rl_in hF⟩))))))))))
      · have h0 : ¬ nI j < 0 := nI_pos (by omega)
        have h1 : ¬ nI (pg_vs P) ≤ nI j := nI_ge hj (by omega)
        refine br_t hs (br_t hlt (br_t rfl (br_f h0 (br_f h1 (br_f bb_10 ?_)))))
        by_cases t0 : v2 < 0
        · exact br_t t0 (br_t hs (br_t hlt (br_f h0 (br_f h1 (br_f bb_10 (br_t t0 ⟨rfl, rl_in hF⟩))))))
        · by_cases t1 : v2 ≤ nI cap
          · obtain ⟨t, ht, rfl⟩ := nI_of t0
            have t2 := t1
            rw [nI_leI ht (by omega)] at t2
            refine br_f t0 (br_t t1 (qx_append (by omega) ?_))
            refine br_t hs (br_t hlt (br_f h0 (br_f h1 (br_f bb_10 (br_f t0 (br_t t1 (qy_append (by omega) ⟨rfl, ?_⟩)))))))
            exact rl_in (P := pg_app P 2 j t 0 0 0) (rl_app (cd := 6) hF hs hc (by omega) hj (by omega) (fun z => absurd z (by decide)) rfl (fun _ _ => rfl) (fun _ _ => rfl) (fun _ _ => rfl) (fun z => absurd z (by decide)))
          · exact br_f t0 (br_f t1 (br_t hs (br_t hlt (br_f h0 (br_f h1 (br_f bb_10 (br_f t0 (br_f t1 ⟨rfl, rl_in hF⟩))))))))
    · have hlt : ¬ nI (pg_sz P) < nI cap := nI_nlt (by omega) (by omega)
      exact br_t hs (br_f hlt (br_f fd_2 (br_t hs (br_f hlt ⟨rfl, rl_in hF⟩))))
  · exact br_f hs (br_f fd_3 (br_f hs ⟨rfl, rl_in hF⟩))
theorem i_vc_jump {k : Nat} {u : SX} {v : SY} (I : i_Rel k u v) (hk : k + 5 ≤ 2562) (v1 : Int32) : wpX_jump (fun r u' => wpY_jump (fun r' v' => r' = r ∧ i_Rel (k + 5) u' v') v v1) u v1 := by
  refine rl_el (Q := fun u v => wpX_jump (fun r u' => wpY_jump (fun r' v' => r' = r ∧ i_Rel (k + 5) u' v') v v1) u v1) ?_ I
  intro P cap f_opOut f_opBranch f_opJump f_sealed f_queued f_workLen a_code a_subject a_left a_right a_dest a_uses a_entryCount a_need a_sched a_schedLen a_held a_heldLen a_reached a_queue a_work a_picked a_inputs a_store a_outs a_outLen a_counts g_waiting g_factCount b_kind b_name b_opOf b_left b_right b_goal b_list b_leaving b_live b_seen b_facts hF
  have hF' := hF
  obtain ⟨ok, ⟨c4, c20, csz⟩, pX, pY, hol, hS⟩ := hF'
  have h2 := pg_vs2 ok
  by_cases hs : f_sealed = 0
  · by_cases hc : pg_sz P < cap
    · have hlt : nI (pg_sz P) < nI cap := nI_lt hc (by omega)
      refine br_t hs (br_t hlt (br_t rfl ?_))
      by_cases t0 : v1 < 0
      · exact br_t t0 (br_t hs (br_t hlt (br_t t0 ⟨rfl, rl_in hF⟩)))
      · by_cases t1 : v1 ≤ nI cap
        · obtain ⟨t, ht, rfl⟩ := nI_of t0
          have t2 := t1
          rw [nI_leI ht (by omega)] at t2
          refine br_f t0 (br_t t1 (qx_append (by omega) ?_))
          refine br_t hs (br_t hlt (br_f t0 (br_t t1 (qy_append (by omega) ⟨rfl, ?_⟩))))
          exact rl_in (P := pg_app P 3 0 t 0 0 0) (rl_app (cd := 7) hF hs hc (by omega) (by omega) (by omega) (fun z => absurd z (by decide)) rfl (fun _ _ => rfl) (fun _ _ => rfl) (fun _ _ => rfl) (fun z => absurd z (by decide)))
        · exact br_f t0 (br_f t1 (br_t hs (br_t hlt (br_f t0 (br_f t1 ⟨rfl, rl_in hF⟩)))))
    · have hlt : ¬ nI (pg_sz P) < nI cap := nI_nlt (by omega) (by omega)
      exact br_t hs (br_f hlt (br_f fd_2 (br_t hs (br_f hlt ⟨rfl, rl_in hF⟩))))
  · exact br_f hs (br_f fd_3 (br_f hs ⟨rfl, rl_in hF⟩))
/-! ===== assign ===== -/
section
variable {f_opOut f_opBranch f_opJump f_cap f_vars f_size f_sealed f_queued f_workLen : Int32} {a_code a_subject a_left a_right a_dest a_uses a_entryCount a_need a_sched a_schedLen a_held a_heldLen a_reached a_queue a_work a_picked a_inputs a_store a_outs a_outLen a_counts : Nat → Int32}
theorem qx_readsTwo {post : Int32 → Prop} {o : Nat} (ho : o < 5) (K1 : o ≠ 0 → o ≠ 4 → post 1) (K0 : (o = 0 ∨ o = 4) → post 0) : wpX_readsTwo post (f_opOut, f_opBranch, f_opJump, f_cap, f_vars, f_size, f_sealed, f_queued, f_workLen, a_code, a_subject, a_left, a_right, a_dest, a_uses, a_entryCount, a_need, a_sched, a_schedLen, a_held, a_heldLen, a_reached, a_queue, a_work, a_picked, a_inputs, a_store, a_outs, a_outLen, a_counts) (nI o) :=
  pk_eq o 1 (fun h => K1 (by omega) (by omega)) (fun h1 => pk_eq o 2 (fun h => K1 (by omega) (by omega)) (fun h2 => pk_eq o 3 (fun h => K1 (by omega) (by omega)) (fun h3 => K0 (by omega))))
theorem qx_readBits {post : Int32 → Prop} {o vs : Nat} {x3 x4 : Int32} (ho : o < 5) (h6 : vs ≤ 6) (hl : o ≠ 0 → ∃ a, a < vs ∧ x3 = nI a) (hr : o ≠ 0 → o ≠ 4 → ∃ b, b < vs ∧ x4 = nI b)
    (K : ∀ r, (∀ w, w < 32 → (bt r w = true ↔ w < vs ∧ o ≠ 0 ∧ (x3 = nI w ∨ (o ≠ 4 ∧ x4 = nI w)))) → post r) : wpX_readBits post (f_opOut, f_opBranch, f_opJump, f_cap, f_vars, f_size, f_sealed, f_queued, f_workLen, a_code, a_subject, a_left, a_right, a_dest, a_uses, a_entryCount, a_need, a_sched, a_schedLen, a_held, a_heldLen, a_reached, a_queue, a_work, a_picked, a_inputs, a_store, a_outs, a_outLen, a_counts) (nI o) x3 x4 := by
  refine pk_eq o 0 (fun h0 => K 0 ?_) (fun h0 => nm_e (qx_readsTwo ho (fun _ h4 => br_f bb_10 (K _ ?_)) (fun h4 => br_t rfl (K _ ?_))))
  · intro w hw
    rw [b_0]
    constructor
    · intro z; exact absurd z (by decide)
    · rintro ⟨_, z, _⟩; exact absurd h0 z
  · obtain ⟨a, ha, rfl⟩ := hl h0
    obtain ⟨b, hb, rfl⟩ := hr h0 h4
    intro w hw
    rw [b_or, bb_bit (by omega) hw, bb_bit (by omega) hw, Bool.or_eq_true, decide_eq_true_iff, decide_eq_true_iff, nI_eq (by omega) (by omega), nI_eq (by omega) (by omega)]
    constructor
    · rintro (z | z)
      · exact ⟨by omega, h0, Or.inl z.symm⟩
      · exact ⟨by omega, h0, Or.inr ⟨h4, z.symm⟩⟩
    · rintro ⟨_, _, z | ⟨_, z⟩⟩
      · exact Or.inl z.symm
      · exact Or.inr z.symm
  · obtain ⟨a, ha, rfl⟩ := hl h0
    intro w hw
    rw [bb_bit (by omega) hw, decide_eq_true_iff, nI_eq (by omega) (by omega)]
    constructor
    · intro z; exact ⟨by omega, h0, Or.inl z.symm⟩
    · rintro ⟨_, _, z | ⟨z, _⟩⟩
      · exact z.symm
      · exact absurd (h4.resolve_left h0) z
theorem qx_assign66 {post : Int32 → SX → Prop} {o vs n : Nat} {x1 x3 x4 : Int32} (hn : n < 20) (ho : o < 5) (h6 : vs ≤ 6) (hl : o ≠ 0 → ∃ a, a < vs ∧ x3 = nI a) (hr : o ≠ 0 → o ≠ 4 → ∃ b, b < vs ∧ x4 = nI b)
    (K : ∀ u1, (∀ j, j < n → u1 j = a_uses j) → (∀ w, w < 32 → (bt (u1 n) w = true ↔ w < vs ∧ o ≠ 0 ∧ (x3 = nI w ∨ (o ≠ 4 ∧ x4 = nI w)))) → post (nI n) (f_opOut, f_opBranch, f_opJump, f_cap, f_vars, (nI (n + 1)), f_sealed, f_queued, f_workLen, (upd a_code n (nI o)), (upd a_subject n x1), (upd a_left n x3), (upd a_right n x4), (upd a_dest n 0), u1, a_entryCount, a_need, a_sched, a_schedLen, a_held, a_heldLen, a_reached, a_queue, a_work, a_picked, a_inputs, a_store, a_outs, a_outLen, a_counts)) :
    wX_assign_66 post x1 (nI o) x3 x4 f_opOut f_opBranch f_opJump f_cap f_vars (nI n) f_sealed f_queued f_workLen a_code a_subject a_left a_right a_dest a_uses a_entryCount a_need a_sched a_schedLen a_held a_heldLen a_reached a_queue a_work a_picked a_inputs a_store a_outs a_outLen a_counts := by
  have hi : vp_in (nI n) 20 := vp_in_nI hn (by omega)
  refine And.intro hi (nm_r (e' := upd a_left n x3) (by rw [nI_clamp (by omega)]) (And.intro hi (nm_r (e' := upd a_right n x4) (by rw [nI_clamp (by omega)]) (qx_readBits ho h6 hl hr (fun r hrb => And.intro hi (nm_r (e' := upd a_uses n r) (by rw [nI_clamp (by omega)]) (qx_append hn ?_)))))))
  refine K _ (fun j hj => pk_un (by omega)) (fun w hw => ?_)
  rw [pk_us]; exact hrb w hw
end
theorem i_vc_assign {k : Nat} {u : SX} {v : SY} (I : i_Rel k u v) (hk : k + 5 ≤ 2562) (v1 : Int32) (v2 : Int32) (v3 : Int32) (v4 : Int32) : wpX_assign (fun r u' => wpY_assign (fun r' v' => r' = r ∧ i_Rel (k + 5) u' v') v v1 v2 v3 v4) u v1 v2 v3 v4 := by
  refine rl_el (Q := fun u v => wpX_assign (fun r u' => wpY_assign (fun r' v' => r' = r ∧ i_Rel (k + 5) u' v') v v1 v2 v3 v4) u v1 v2 v3 v4) ?_ I
  intro P cap f_opOut f_opBranch f_opJump f_sealed f_queued f_workLen a_code a_subject a_left a_right a_dest a_uses a_entryCount a_need a_sched a_schedLen a_held a_heldLen a_reached a_queue a_work a_picked a_inputs a_store a_outs a_outLen a_counts g_waiting g_factCount b_kind b_name b_opOf b_left b_right b_goal b_list b_leaving b_live b_seen b_facts hF
  have hF' := hF
  obtain ⟨ok, ⟨c4, c20, csz⟩, pX, pY, hol, hS⟩ := hF'
  have h6 := pg_vs6 ok
  by_cases hs : f_sealed = 0
  · by_cases hc : pg_sz P < cap
    · have hlt : nI (pg_sz P) < nI cap := nI_lt hc (by omega)
      have hn20 : pg_sz P < 20 := by omega
      rcases pk_ix v1 (n := pg_vs P) (by omega) with h | h | ⟨j, hj, rfl⟩
      · exact br_t hs (br_t hlt (br_t rfl (br_t h (br_t rfl (br_t hs (br_t hlt (br_t h (br_t rfl ⟨rfl, rl_in hF⟩))))))))
      · have h0 : ¬ v1 < 0 := Int32.not_lt.mpr (Int32.le_trans (nI_pos' (by omega)) h)
        exact br_t hs (br_t hlt (br_t rfl (br_f h0 (br_t h (br_t rfl (br_t hs (br_t hlt (br_f h0 (br_t h (br_t rfl ⟨rfl, rl_in hF⟩))))))))))
      · have h0 : ¬ nI j < 0 := nI_pos (by omega)
        have h1 : ¬ nI (pg_vs P) ≤ nI j := nI_ge hj (by omega)
        refine br_t hs (br_t hlt (br_t rfl (br_f h0 (br_f h1 (br_f bb_10 ?_)))))
        by_cases o0 : v2 < 0
        · exact br_t o0 (br_t hs (br_t hlt (br_f h0 (br_f h1 (br_f bb_10 (br_t o0 ⟨rfl, rl_in hF⟩))))))
        · by_cases o4 : v2 ≤ 4
          · obtain ⟨o, ho, rfl⟩ : ∃ o, o < 5 ∧ v2 = nI o := by
              obtain ⟨o, ho, e⟩ := nI_of2 (M := 4) (n := 4) (by decide) o0 o4
              exact ⟨o, by omega, e⟩
            have fin : ∀ u1, (o ≠ 0 → ∃ a, a < pg_vs P ∧ v3 = nI a) → (o ≠ 0 → o ≠ 4 → ∃ b, b < pg_vs P ∧ v4 = nI b) → (∀ i, i < pg_sz P → u1 i = a_uses i) → (∀ w, w < 32 → (bt (u1 (pg_sz P)) w = true ↔ w < pg_vs P ∧ o ≠ 0 ∧ (v3 = nI w ∨ (o ≠ 4 ∧ v4 = nI w)))) → rl_F (pg_app P 0 j 0 o v3 v4) cap f_sealed (upd a_code (pg_sz P) (nI o)) (upd a_subject (pg_sz P) (nI j)) (upd a_left (pg_sz P) v3) (upd a_right (pg_sz P) v4) (upd a_dest (pg_sz P) (nI 0)) u1 (upd b_kind (pg_sz P) (nI 0)) (upd b_name (pg_sz P) (nI j)) (upd b_opOf (pg_sz P) (nI o)) (upd b_left (pg_sz P) v3) (upd b_right (pg_sz P) v4) (upd b_goal (pg_sz P) (nI 0)) a_outLen a_entryCount a_need a_sched a_schedLen := by
              intro u1 ha hb hu hbits
              exact rl_app hF hs hc (by omega) hj (by omega) (fun _ => ⟨ho, ha, hb⟩) rfl (fun i hi => pk_un (by omega)) (fun i hi => pk_un (by omega)) hu (fun _ => ⟨pk_us, pk_us, hbits⟩)
            refine br_f o0 (br_t o4 ?_)
            by_cases z0 : o = 0
            · subst z0
              have ha : (0 : Nat) ≠ 0 → ∃ a, a < pg_vs P ∧ v3 = nI a := fun z => absurd rfl z
              have hb : (0 : Nat) ≠ 0 → (0 : Nat) ≠ 4 → ∃ b, b < pg_vs P ∧ v4 = nI b := fun z => absurd rfl z
              refine br_t rfl (qx_readsTwo ho (fun z => absurd rfl z) (fun _ => br_t rfl (qx_assign66 hn20 ho h6 ha hb (fun u1 e1 e2 => ?_))))
              refine br_t hs (br_t hlt (br_f h0 (br_f h1 (br_f bb_10 (br_f o0 (br_t o4 (br_t rfl (br_t rfl (qy_append hn20 ⟨rfl, ?_⟩)))))))))
              exact rl_in (P := pg_app P 0 j 0 0 v3 v4) (fin u1 ha hb e1 e2)
            · have z0' : ¬ nI o = 0 := nb_ne (b := 0) z0 (by omega) (by omega)
              rcases pk_ix v3 (n := pg_vs P) (by omega) with y | y | ⟨a, hva, rfl⟩
              · exact br_f z0' (br_t y (br_t rfl (br_t hs (br_t hlt (br_f h0 (br_f h1 (br_f bb_10 (br_f o0 (br_t o4 (br_f z0' (br_t y (br_t rfl ⟨rfl, rl_in hF⟩))))))))))))
              · have y0 : ¬ v3 < 0 := Int32.not_lt.mpr (Int32.le_trans (nI_pos' (by omega)) y)
                exact br_f z0' (br_f y0 (br_t y (br_t rfl (br_t hs (br_t hlt (br_f h0 (br_f h1 (br_f bb_10 (br_f o0 (br_t o4 (br_f z0' (br_f y0 (br_t y (br_t rfl ⟨rfl, rl_in hF⟩))))))))))))))
              · have y0 : ¬ nI a < 0 := nI_pos (by omega)
                have y1 : ¬ nI (pg_vs P) ≤ nI a := nI_ge hva (by omega)
                have ha : o ≠ 0 → ∃ a', a' < pg_vs P ∧ nI a = nI a' := fun _ => ⟨a, hva, rfl⟩
                refine br_f z0' (br_f y0 (br_f y1 (br_f bb_10 ?_)))
                by_cases z4 : o = 4
                · subst z4
                  have hb : (4 : Nat) ≠ 0 → (4 : Nat) ≠ 4 → ∃ b, b < pg_vs P ∧ v4 = nI b := fun _ z => absurd rfl z
                  refine qx_readsTwo ho (fun _ z => absurd rfl z) (fun _ => br_t rfl (qx_assign66 hn20 ho h6 ha hb (fun u1 e1 e2 => ?_)))
                  refine br_t hs (br_t hlt (br_f h0 (br_f h1 (br_f bb_10 (br_f o0 (br_t o4 (br_f z0' (br_f y0 (br_f y1 (br_f bb_10 (br_f z0' (br_t rfl (qy_append hn20 ⟨rfl, ?_⟩)))))))))))))
                  exact rl_in (P := pg_app P 0 j 0 4 (nI a) v4) (fin u1 ha hb e1 e2)
                · have z4' : ¬ nI o = 4 := nb_ne (b := 4) z4 (by omega) (by omega)
                  refine qx_readsTwo ho (fun _ _ => br_f bb_10 ?_) (fun z => absurd z (by omega))
                  rcases pk_ix v4 (n := pg_vs P) (by omega) with x | x | ⟨b, hvb, rfl⟩
                  · exact br_t x (br_t rfl (br_t hs (br_t hlt (br_f h0 (br_f h1 (br_f bb_10 (br_f o0 (br_t o4 (br_f z0' (br_f y0 (br_f y1 (br_f bb_10 (br_f z0' (br_f z4' (br_t x (br_t rfl ⟨rfl, rl_in hF⟩))))))))))))))))
                  · have x0 : ¬ v4 < 0 := Int32.not_lt.mpr (Int32.le_trans (nI_pos' (by omega)) x)
                    exact br_f x0 (br_t x (br_t rfl (br_t hs (br_t hlt (br_f h0 (br_f h1 (br_f bb_10 (br_f o0 (br_t o4 (br_f z0' (br_f y0 (br_f y1 (br_f bb_10 (br_f z0' (br_f z4' (br_f x0 (br_t x (br_t rfl ⟨rfl, rl_in hF⟩))))))))))))))))))
                  · have x0 : ¬ nI b < 0 := nI_pos (by omega)
                    have x1 : ¬ nI (pg_vs P) ≤ nI b := nI_ge hvb (by omega)
                    have hb : o ≠ 0 → o ≠ 4 → ∃ b', b' < pg_vs P ∧ nI b = nI b' := fun _ _ => ⟨b, hvb, rfl⟩
                    refine br_f x0 (br_f x1 (br_f bb_10 (qx_assign66 hn20 ho h6 ha hb (fun u1 e1 e2 => ?_))))
                    refine br_t hs (br_t hlt (br_f h0 (br_f h1 (br_f bb_10 (br_f o0 (br_t o4 (br_f z0' (br_f y0 (br_f y1 (br_f bb_10 (br_f z0' (br_f z4' (br_f x0 (br_f x1 (br_f bb_10 (qy_append hn20 ⟨rfl, ?_⟩))))))))))))))))
                    exact rl_in (P := pg_app P 0 j 0 o (nI a) (nI b)) (fin u1 ha hb e1 e2)
          · exact br_f o0 (br_f o4 (br_t hs (br_t hlt (br_f h0 (br_f h1 (br_f bb_10 (br_f o0 (br_f o4 ⟨rfl, rl_in hF⟩))))))))
    · have hlt : ¬ nI (pg_sz P) < nI cap := nI_nlt (by omega) (by omega)
      exact br_t hs (br_f hlt (br_f fd_2 (br_t hs (br_f hlt ⟨rfl, rl_in hF⟩))))
  · exact br_f hs (br_f fd_3 (br_f hs ⟨rfl, rl_in hF⟩))
end
section
/-! ===== seal, clear, inputs ===== -/
theorem i_vc_seal {k : Nat} {u : SX} {v : SY} (I : i_Rel k u v) (hk : k + 5 ≤ 2562) : wpX_seal (fun r u' => wpY_seal (fun r' v' => r' = r ∧ i_Rel (k + 5) u' v') v) u := by
  refine rl_el (Q := fun u v => wpX_seal (fun r u' => wpY_seal (fun r' v' => r' = r ∧ i_Rel (k + 5) u' v') v) u) ?_ I
  intro P cap f_opOut f_opBranch f_opJump f_sealed f_queued f_workLen a_code a_subject a_left a_right a_dest a_uses a_entryCount a_need a_sched a_schedLen a_held a_heldLen a_reached a_queue a_work a_picked a_inputs a_store a_outs a_outLen a_counts g_waiting g_factCount b_kind b_name b_opOf b_left b_right b_goal b_list b_leaving b_live b_seen b_facts hF
  have hF' := hF
  obtain ⟨ok, hcap, pX, pY, hol, hS⟩ := hF'
  by_cases hs : f_sealed = 0
  · subst hs
    refine qx_seal ok pX (fun E' nd' sc' sl' he' hl' re' qu' fq' wl' w' p' hE hN hC => ?_)
    exact br_t rfl ⟨rfl, rl_in ⟨ok, hcap, pX, pY, hol, fun _ => ⟨hE, hN, hC⟩⟩⟩
  · exact br_f hs (br_f hs ⟨rfl, rl_in hF⟩)
def pg_clr (P : pg_T) : pg_T := (0, P.2)
theorem i_vc_clear {k : Nat} {u : SX} {v : SY} (I : i_Rel k u v) (hk : k + 5 ≤ 2562) : wpX_clear (fun u' => wpY_clear (fun v' => i_Rel (k + 5) u' v') v) u := by
  refine rl_el (Q := fun u v => wpX_clear (fun u' => wpY_clear (fun v' => i_Rel (k + 5) u' v') v) u) ?_ I
  intro P cap f_opOut f_opBranch f_opJump f_sealed f_queued f_workLen a_code a_subject a_left a_right a_dest a_uses a_entryCount a_need a_sched a_schedLen a_held a_heldLen a_reached a_queue a_work a_picked a_inputs a_store a_outs a_outLen a_counts g_waiting g_factCount b_kind b_name b_opOf b_left b_right b_goal b_list b_leaving b_live b_seen b_facts hF
  have hF' := hF
  obtain ⟨ok, ⟨c4, c20, csz⟩, pX, pY, hol, hS⟩ := hF'
  refine qx_clear ?_
  refine qy_clear ?_
  refine rl_in (P := pg_clr P) ⟨⟨Nat.zero_le _, ok.2.1, ok.2.2.1, fun n hn => absurd hn (Nat.not_lt_zero n)⟩, ⟨c4, c20, Nat.zero_le _⟩, fun n hn => absurd hn (Nat.not_lt_zero n), fun n hn => absurd hn (Nat.not_lt_zero n), ?_, fun z => absurd rfl z⟩
  intro i hi
  refine ⟨0, by omega, ?_⟩
  rcases (by omega : i = 0 ∨ i = 1) with e | e
  · rw [e, pk_un (by decide), pk_us]; rfl
  · rw [e, pk_us]; rfl
theorem i_vc_setInput {k : Nat} {u : SX} {v : SY} (I : i_Rel k u v) (hk : k + 5 ≤ 2562) (v1 : Int32) (v2 : Int32) : wpX_setInput (fun r u' => wpY_setInput (fun r' v' => r' = r ∧ i_Rel (k + 5) u' v') v v1 v2) u v1 v2 := by
  refine rl_el (Q := fun u v => wpX_setInput (fun r u' => wpY_setInput (fun r' v' => r' = r ∧ i_Rel (k + 5) u' v') v v1 v2) u v1 v2) ?_ I
  intro P cap f_opOut f_opBranch f_opJump f_sealed f_queued f_workLen a_code a_subject a_left a_right a_dest a_uses a_entryCount a_need a_sched a_schedLen a_held a_heldLen a_reached a_queue a_work a_picked a_inputs a_store a_outs a_outLen a_counts g_waiting g_factCount b_kind b_name b_opOf b_left b_right b_goal b_list b_leaving b_live b_seen b_facts hF
  have hF' := hF
  obtain ⟨ok, ⟨c4, c20, csz⟩, pX, pY, hol, hS⟩ := hF'
  have h6 := pg_vs6 ok
  rcases pk_ix v1 (n := pg_vs P) (by omega) with h | h | ⟨j, hj, rfl⟩
  · exact br_t h (br_t rfl (br_t h (br_t rfl ⟨rfl, rl_in hF⟩)))
  · have h0 : ¬ v1 < 0 := Int32.not_lt.mpr (Int32.le_trans (nI_pos' (by omega)) h)
    exact br_f h0 (br_t h (br_t rfl (br_f h0 (br_t h (br_t rfl ⟨rfl, rl_in hF⟩)))))
  · have h0 : ¬ nI j < 0 := nI_pos (by omega)
    have h1 : ¬ nI (pg_vs P) ≤ nI j := nI_ge hj (by omega)
    have hi : vp_in (nI j) 6 := vp_in_nI (by omega) (by omega)
    exact br_f h0 (br_f h1 (br_f bb_10 (And.intro hi (nm_e (br_f h0 (br_f h1 (br_f bb_10 (And.intro hi (nm_e ⟨rfl, rl_in hF⟩)))))))))
/-! ===== run ===== -/
theorem i_vc_run {k : Nat} {u : SX} {v : SY} (I : i_Rel k u v) (hk : k + 5 ≤ 2562) (v1 : Int32) : wpX_run (fun r u' => wpY_run (fun r' v' => r' = r ∧ i_Rel (k + 5) u' v') v v1) u v1 := by
  refine rl_el (Q := fun u v => wpX_run (fun r u' => wpY_run (fun r' v' => r' = r ∧ i_Rel (k + 5) u' v') v v1) u v1) ?_ I
  intro P cap f_opOut f_opBranch f_opJump f_sealed f_queued f_workLen a_code a_subject a_left a_right a_dest a_uses a_entryCount a_need a_sched a_schedLen a_held a_heldLen a_reached a_queue a_work a_picked a_inputs a_store a_outs a_outLen a_counts g_waiting g_factCount b_kind b_name b_opOf b_left b_right b_goal b_list b_leaving b_live b_seen b_facts hF
  have hF' := hF
  obtain ⟨ok, hcap, pX, pY, hol, hS⟩ := hF'
  by_cases m0 : v1 = 0
  · subst m0
    by_cases hs : f_sealed = 0
    · exact br_t rfl (br_f bb_10 (br_t hs (br_t rfl (br_f bb_10 (br_t hs ⟨rfl, rl_in hF⟩)))))
    · obtain ⟨r, st', ct', os', ol', ⟨c', hc', e0⟩, e1, HX, HY⟩ := rn_src (f_opOut := f_opOut) (f_opBranch := f_opBranch) (f_opJump := f_opJump) (f_sealed := f_sealed) (f_queued := f_queued) (f_workLen := f_workLen) (a_code := a_code) (a_subject := a_subject) (a_left := a_left) (a_right := a_right) (a_dest := a_dest) (a_uses := a_uses) (a_entryCount := a_entryCount) (a_need := a_need) (a_sched := a_sched) (a_schedLen := a_schedLen) (a_held := a_held) (a_heldLen := a_heldLen) (a_reached := a_reached) (a_queue := a_queue) (a_work := a_work) (a_picked := a_picked) (a_inputs := a_inputs) (f_cap := nI cap) (f_vars := nI (pg_vs P)) (g_factCount := g_factCount) (b_kind := b_kind) (b_name := b_name) (b_opOf := b_opOf) (b_left := b_left) (b_right := b_right) (b_goal := b_goal) (b_list := b_list) (b_leaving := b_leaving) (b_live := b_live) (b_seen := b_seen) (b_facts := b_facts) (g_cap := nI cap) (g_vars := nI (pg_vs P)) (g_sealed := f_sealed) (g_waiting := 0) (b_input := a_inputs) ok pX pY 96 0 0 (-1) 0 (rn_in a_inputs a_store) (rn_z 0 a_counts) a_outs (upd a_outLen 0 0) (by omega) pk_us (by omega) (by omega)
      refine br_t rfl (br_f bb_10 (br_f hs (qx_drop (md := 0) (by omega) (qx_loadInputs ⟨97, HX _ ?_⟩))))
      refine br_t rfl (br_f bb_10 (br_f hs (qy_run0 (md := 0) (by omega) ⟨97, HY _ ⟨rfl, rl_in ⟨ok, hcap, pX, pY, ?_, hS⟩⟩⟩)))
      intro i hi
      rcases (by omega : i = 0 ∨ i = 1) with e | e
      · rw [e]; exact ⟨c', hc', e0⟩
      · rw [e, e1, pk_un (by decide)]; exact hol 1 (by omega)
  · by_cases m1 : v1 = 1
    · subst m1
      by_cases hs : f_sealed = 0
      · exact br_f m0 (br_t rfl (br_f bb_10 (br_t hs (br_f m0 (br_t rfl (br_f bb_10 (br_t hs ⟨rfl, rl_in hF⟩)))))))
      · obtain ⟨hE, hN, A, R, hR0, hA0, hR⟩ := hS hs
        obtain ⟨r, st', ct', os', ol', ⟨c', hc', e0⟩, e1, HX, HY⟩ := rn_thr (A := A) (R := R) (f_opOut := f_opOut) (f_opBranch := f_opBranch) (f_opJump := f_opJump) (f_sealed := f_sealed) (f_queued := f_queued) (f_workLen := f_workLen) (a_code := a_code) (a_subject := a_subject) (a_left := a_left) (a_right := a_right) (a_dest := a_dest) (a_uses := a_uses) (a_entryCount := a_entryCount) (a_need := a_need) (a_sched := a_sched) (a_schedLen := a_schedLen) (a_held := a_held) (a_heldLen := a_heldLen) (a_reached := a_reached) (a_queue := a_queue) (a_work := a_work) (a_picked := a_picked) (a_inputs := a_inputs) (f_cap := nI cap) (f_vars := nI (pg_vs P)) (b_kind := b_kind) (b_name := b_name) (b_opOf := b_opOf) (b_left := b_left) (b_right := b_right) (b_goal := b_goal) (g_cap := nI cap) (g_sealed := f_sealed) (b_input := a_inputs) ok pX pY hs hR 96 0 0 (-1) [] 0 (rn_in a_inputs a_store) (rn_z 1 a_counts) a_outs (upd a_outLen 1 0) (by omega) sq_Vn (by decide) pk_us (by omega) (by omega) (fun z => ⟨hR0 z, Or.inl ⟨rfl, rfl, hA0⟩⟩)
        refine br_f m0 (br_t rfl (br_f bb_10 (br_f hs (qx_drop (md := 1) (by omega) (qx_loadInputs ⟨97, HX _ ?_⟩)))))
        refine br_f m0 (br_t rfl (br_f bb_10 (br_f hs (qy_run0 (md := 1) (by omega) ⟨97, HY _ _ _ _ _ _ _ sq_Rn (fun wt' fc' li' le' lv' se' fa' => ⟨rfl, rl_in ⟨ok, hcap, pX, pY, ?_, hS⟩⟩)⟩))))
        intro i hi
        rcases (by omega : i = 0 ∨ i = 1) with e | e
        · rw [e, e1, pk_un (by decide)]; exact hol 0 (by omega)
        · rw [e]; exact ⟨c', hc', e0⟩
    · exact br_f m0 (br_f m1 (br_t rfl (br_f m0 (br_f m1 (br_t rfl ⟨rfl, rl_in hF⟩)))))
/-! ===== answers ===== -/
theorem i_vc_outputs {k : Nat} {u : SX} {v : SY} (I : i_Rel k u v) (hk : k + 5 ≤ 2562) (v1 : Int32) : wpX_outputs (fun r => wpY_outputs (fun r' => r' = r ∧ i_Rel (k + 5) u v) v v1) u v1 := by
  refine rl_el (Q := fun u v => wpX_outputs (fun r => wpY_outputs (fun r' => r' = r ∧ i_Rel (k + 5) u v) v v1) u v1) ?_ I
  intro P cap f_opOut f_opBranch f_opJump f_sealed f_queued f_workLen a_code a_subject a_left a_right a_dest a_uses a_entryCount a_need a_sched a_schedLen a_held a_heldLen a_reached a_queue a_work a_picked a_inputs a_store a_outs a_outLen a_counts g_waiting g_factCount b_kind b_name b_opOf b_left b_right b_goal b_list b_leaving b_live b_seen b_facts hF
  by_cases m0 : v1 = 0
  · have hi : vp_in v1 2 := by rw [m0]; exact vp_in_nI (n := 0) (by omega) (by omega)
    exact br_t m0 (br_f bb_10 (And.intro hi (br_t m0 (br_f bb_10 (And.intro hi ⟨rfl, rl_in hF⟩)))))
  · by_cases m1 : v1 = 1
    · have hi : vp_in v1 2 := by rw [m1]; exact vp_in_nI (n := 1) (by omega) (by omega)
      exact br_f m0 (br_t m1 (br_f bb_10 (And.intro hi (br_f m0 (br_t m1 (br_f bb_10 (And.intro hi ⟨rfl, rl_in hF⟩)))))))
    · exact br_f m0 (br_f m1 (br_t rfl (br_f m0 (br_f m1 (br_t rfl ⟨rfl, rl_in hF⟩)))))
theorem i_vc_output {k : Nat} {u : SX} {v : SY} (I : i_Rel k u v) (hk : k + 5 ≤ 2562) (v1 : Int32) (v2 : Int32) : wpX_output (fun r => wpY_output (fun r' => r' = r ∧ i_Rel (k + 5) u v) v v1 v2) u v1 v2 := by
  refine rl_el (Q := fun u v => wpX_output (fun r => wpY_output (fun r' => r' = r ∧ i_Rel (k + 5) u v) v v1 v2) u v1 v2) ?_ I
  intro P cap f_opOut f_opBranch f_opJump f_sealed f_queued f_workLen a_code a_subject a_left a_right a_dest a_uses a_entryCount a_need a_sched a_schedLen a_held a_heldLen a_reached a_queue a_work a_picked a_inputs a_store a_outs a_outLen a_counts g_waiting g_factCount b_kind b_name b_opOf b_left b_right b_goal b_list b_leaving b_live b_seen b_facts hF
  have hF' := hF
  obtain ⟨ok, hcap, pX, pY, hol, hS⟩ := hF'
  have key : ∀ md, md < 2 → v1 = nI md → ¬ v2 < 0 → vp_in v1 2 ∧ (v2 < a_outLen v1.toNatClampNeg → vp_in ((v1 * 96) + v2) 192) := by
    intro md hmd e h0
    subst e
    refine ⟨vp_in_nI hmd (by omega), fun h => ?_⟩
    obtain ⟨n, hn, e2⟩ := hol md hmd
    obtain ⟨j, hj, rfl⟩ := nI_of h0
    rw [nI_clamp (by omega), e2, nI_ltI hj (by omega)] at h
    rw [nb_m96]
    exact vp_in_nI (by omega) (by omega)
  by_cases m0 : v1 = 0
  · by_cases h0 : v2 < 0
    · exact br_t m0 (br_f bb_10 (br_t h0 (br_t m0 (br_f bb_10 (br_t h0 ⟨rfl, rl_in hF⟩)))))
    · obtain ⟨hi, hj⟩ := key 0 (by omega) m0 h0
      by_cases h1 : v2 < a_outLen v1.toNatClampNeg
      · exact br_t m0 (br_f bb_10 (br_f h0 (And.intro hi (br_t h1 (And.intro (hj h1) (br_t m0 (br_f bb_10 (br_f h0 (And.intro hi (br_t h1 (And.intro (hj h1) ⟨rfl, rl_in hF⟩)))))))))))
      · exact br_t m0 (br_f bb_10 (br_f h0 (And.intro hi (br_f h1 (br_t m0 (br_f bb_10 (br_f h0 (And.intro hi (br_f h1 ⟨rfl, rl_in hF⟩)))))))))
  · by_cases m1 : v1 = 1
    · by_cases h0 : v2 < 0
      · exact br_f m0 (br_t m1 (br_f bb_10 (br_t h0 (br_f m0 (br_t m1 (br_f bb_10 (br_t h0 ⟨rfl, rl_in hF⟩)))))))
      · obtain ⟨hi, hj⟩ := key 1 (by omega) m1 h0
        by_cases h1 : v2 < a_outLen v1.toNatClampNeg
        · exact br_f m0 (br_t m1 (br_f bb_10 (br_f h0 (And.intro hi (br_t h1 (And.intro (hj h1) (br_f m0 (br_t m1 (br_f bb_10 (br_f h0 (And.intro hi (br_t h1 (And.intro (hj h1) ⟨rfl, rl_in hF⟩)))))))))))))
        · exact br_f m0 (br_t m1 (br_f bb_10 (br_f h0 (And.intro hi (br_f h1 (br_f m0 (br_t m1 (br_f bb_10 (br_f h0 (And.intro hi (br_f h1 ⟨rfl, rl_in hF⟩)))))))))))
    · exact br_f m0 (br_f m1 (br_t rfl (br_f m0 (br_f m1 (br_t rfl ⟨rfl, rl_in hF⟩)))))
theorem i_vc_ran {k : Nat} {u : SX} {v : SY} (I : i_Rel k u v) (hk : k + 5 ≤ 2562) (v1 : Int32) (v2 : Int32) : wpX_ran (fun r => wpY_ran (fun r' => r' = r ∧ i_Rel (k + 5) u v) v v1 v2) u v1 v2 := by
  refine rl_el (Q := fun u v => wpX_ran (fun r => wpY_ran (fun r' => r' = r ∧ i_Rel (k + 5) u v) v v1 v2) u v1 v2) ?_ I
  intro P cap f_opOut f_opBranch f_opJump f_sealed f_queued f_workLen a_code a_subject a_left a_right a_dest a_uses a_entryCount a_need a_sched a_schedLen a_held a_heldLen a_reached a_queue a_work a_picked a_inputs a_store a_outs a_outLen a_counts g_waiting g_factCount b_kind b_name b_opOf b_left b_right b_goal b_list b_leaving b_live b_seen b_facts hF
  have hF' := hF
  obtain ⟨ok, hcap, pX, pY, hol, hS⟩ := hF'
  have h20 := pg_sz20 ok
  have key : ∀ md j, md < 2 → j < pg_sz P → v1 = nI md → v2 = nI j → vp_in ((v1 * 20) + v2) 40 := by
    intro md j hmd hj e1 e2
    rw [e1, e2, nb_m20]
    exact vp_in_nI (by omega) (by omega)
  by_cases m0 : v1 = 0
  · rcases pk_ix v2 (n := pg_sz P) (by omega) with h | h | ⟨j, hj, e⟩
    · exact br_t m0 (br_f bb_10 (br_t h (br_t rfl (br_t m0 (br_f bb_10 (br_t h ⟨rfl, rl_in hF⟩))))))
    · have h0 : ¬ v2 < 0 := Int32.not_lt.mpr (Int32.le_trans (nI_pos' (by omega)) h)
      have h1 : ¬ v2 < nI (pg_sz P) := Int32.not_lt.mpr h
      exact br_t m0 (br_f bb_10 (br_f h0 (br_t h (br_t rfl (br_t m0 (br_f bb_10 (br_f h0 (br_f h1 ⟨rfl, rl_in hF⟩))))))))
    · have hi := key 0 j (by omega) hj m0 e
      have h0 : ¬ v2 < 0 := by rw [e]; exact nI_pos (by omega)
      have h1 : ¬ nI (pg_sz P) ≤ v2 := by rw [e]; exact nI_ge hj (by omega)
      have h2 : v2 < nI (pg_sz P) := by rw [e]; exact nI_lt hj (by omega)
      exact br_t m0 (br_f bb_10 (br_f h0 (br_f h1 (br_f bb_10 (And.intro hi (br_t m0 (br_f bb_10 (br_f h0 (br_t h2 (And.intro hi ⟨rfl, rl_in hF⟩))))))))))
  · by_cases m1 : v1 = 1
    · rcases pk_ix v2 (n := pg_sz P) (by omega) with h | h | ⟨j, hj, e⟩
      · exact br_f m0 (br_t m1 (br_f bb_10 (br_t h (br_t rfl (br_f m0 (br_t m1 (br_f bb_10 (br_t h ⟨rfl, rl_in hF⟩))))))))
      · have h0 : ¬ v2 < 0 := Int32.not_lt.mpr (Int32.le_trans (nI_pos' (by omega)) h)
        have h1 : ¬ v2 < nI (pg_sz P) := Int32.not_lt.mpr h
        exact br_f m0 (br_t m1 (br_f bb_10 (br_f h0 (br_t h (br_t rfl (br_f m0 (br_t m1 (br_f bb_10 (br_f h0 (br_f h1 ⟨rfl, rl_in hF⟩))))))))))
      · have hi := key 1 j (by omega) hj m1 e
        have h0 : ¬ v2 < 0 := by rw [e]; exact nI_pos (by omega)
        have h1 : ¬ nI (pg_sz P) ≤ v2 := by rw [e]; exact nI_ge hj (by omega)
        have h2 : v2 < nI (pg_sz P) := by rw [e]; exact nI_lt hj (by omega)
        exact br_f m0 (br_t m1 (br_f bb_10 (br_f h0 (br_f h1 (br_f bb_10 (And.intro hi (br_f m0 (br_t m1 (br_f bb_10 (br_f h0 (br_t h2 (And.intro hi ⟨rfl, rl_in hF⟩))))))))))))
    · exact br_f m0 (br_f m1 (br_t rfl (br_f m0 (br_f m1 (br_t rfl ⟨rfl, rl_in hF⟩)))))
theorem i_vc_total {k : Nat} {u : SX} {v : SY} (I : i_Rel k u v) (hk : k + 5 ≤ 2562) (v1 : Int32) : wpX_total (fun r => wpY_total (fun r' => r' = r ∧ i_Rel (k + 5) u v) v v1) u v1 := by
  refine rl_el (Q := fun u v => wpX_total (fun r => wpY_total (fun r' => r' = r ∧ i_Rel (k + 5) u v) v v1) u v1) ?_ I
  intro P cap f_opOut f_opBranch f_opJump f_sealed f_queued f_workLen a_code a_subject a_left a_right a_dest a_uses a_entryCount a_need a_sched a_schedLen a_held a_heldLen a_reached a_queue a_work a_picked a_inputs a_store a_outs a_outLen a_counts g_waiting g_factCount b_kind b_name b_opOf b_left b_right b_goal b_list b_leaving b_live b_seen b_facts hF
  have hF' := hF
  obtain ⟨ok, hcap, pX, pY, hol, hS⟩ := hF'
  have h20 := pg_sz20 ok
  by_cases m0 : v1 = 0
  · subst m0
    refine br_t rfl (br_f bb_10 ⟨pg_sz P + 1, qx_total (md := 0) (by omega) h20 (pg_sz P) 0 0 (by omega) ?_⟩)
    exact br_t rfl (br_f bb_10 ⟨pg_sz P + 1, qy_total (md := 0) (by omega) h20 (pg_sz P) 0 0 (by omega) ⟨rfl, rl_in hF⟩⟩)
  · by_cases m1 : v1 = 1
    · subst m1
      refine br_f m0 (br_t rfl (br_f bb_10 ⟨pg_sz P + 1, qx_total (md := 1) (by omega) h20 (pg_sz P) 0 0 (by omega) ?_⟩))
      exact br_f m0 (br_t rfl (br_f bb_10 ⟨pg_sz P + 1, qy_total (md := 1) (by omega) h20 (pg_sz P) 0 0 (by omega) ⟨rfl, rl_in hF⟩⟩))
    · exact br_f m0 (br_f m1 (br_t rfl (br_f m0 (br_f m1 (br_t rfl ⟨rfl, rl_in hF⟩)))))
theorem i_vc_needed {k : Nat} {u : SX} {v : SY} (I : i_Rel k u v) (hk : k + 5 ≤ 2562) (v1 : Int32) (v2 : Int32) : wpX_needed (fun r => wpY_needed (fun r' v' => r' = r ∧ i_Rel (k + 5) u v') v v1 v2) u v1 v2 := by
  refine rl_el (Q := fun u v => wpX_needed (fun r => wpY_needed (fun r' v' => r' = r ∧ i_Rel (k + 5) u v') v v1 v2) u v1 v2) ?_ I
  intro P cap f_opOut f_opBranch f_opJump f_sealed f_queued f_workLen a_code a_subject a_left a_right a_dest a_uses a_entryCount a_need a_sched a_schedLen a_held a_heldLen a_reached a_queue a_work a_picked a_inputs a_store a_outs a_outLen a_counts g_waiting g_factCount b_kind b_name b_opOf b_left b_right b_goal b_list b_leaving b_live b_seen b_facts hF
  have hF' := hF
  obtain ⟨ok, hcap, pX, pY, hol, hS⟩ := hF'
  have h20 := pg_sz20 ok
  have h6 := pg_vs6 ok
  by_cases hs : f_sealed = 0
  · exact br_t hs (br_t hs ⟨rfl, rl_in hF⟩)
  · obtain ⟨hE, hN, hC⟩ := hS hs
    rcases pk_ix v1 (n := pg_sz P) (by omega) with h | h | ⟨n, hn, rfl⟩
    · exact br_f hs (br_t h (br_t rfl (br_f hs (br_t h ⟨rfl, rl_in hF⟩))))
    · have h0 : ¬ v1 < 0 := Int32.not_lt.mpr (Int32.le_trans (nI_pos' (by omega)) h)
      exact br_f hs (br_f h0 (br_t h (br_t rfl (br_f hs (br_f h0 (br_t h ⟨rfl, rl_in hF⟩))))))
    · have h0 : ¬ nI n < 0 := nI_pos (by omega)
      have h1 : ¬ nI (pg_sz P) ≤ nI n := nI_ge hn (by omega)
      refine br_f hs (br_f h0 (br_f h1 (br_f bb_10 ?_)))
      rcases pk_ix v2 (n := pg_vs P) (by omega) with y | y | ⟨w, hw, rfl⟩
      · exact br_t y (br_t rfl (br_f hs (br_f h0 (br_f h1 (br_t y (br_t rfl ⟨rfl, rl_in hF⟩))))))
      · have y0 : ¬ v2 < 0 := Int32.not_lt.mpr (Int32.le_trans (nI_pos' (by omega)) y)
        exact br_f y0 (br_t y (br_t rfl (br_f hs (br_f h0 (br_f h1 (br_f y0 (br_t y (br_t rfl ⟨rfl, rl_in hF⟩))))))))
      · have y0 : ¬ nI w < 0 := nI_pos (by omega)
        have y1 : ¬ nI (pg_vs P) ≤ nI w := nI_ge hw (by omega)
        refine br_f y0 (br_f y1 (br_f bb_10 (And.intro (vp_in_nI (by omega) (by omega)) ?_)))
        rw [nI_clamp (by omega), bb_sh (by omega)]
        refine br_f hs (br_f h0 (br_f h1 (br_f y0 (br_f y1 (br_f bb_10 (qy_isNeeded ok pY hn hw (fun se' fa' fc' => ?_)))))))
        by_cases z : nd_N P n w
        · rw [if_pos ((hN n w hn (by omega)).mpr z), cq_t.mpr z]
          exact br_f bb_10 ⟨rfl, rl_in hF⟩
        · rw [if_neg (fun y => z ((hN n w hn (by omega)).mp y)), cq_f.mpr z]
          exact br_t rfl ⟨rfl, rl_in hF⟩
theorem i_vc_entries {k : Nat} {u : SX} {v : SY} (I : i_Rel k u v) (hk : k + 5 ≤ 2562) (v1 : Int32) : wpX_entries (fun r => wpY_entries (fun r' => r' = r ∧ i_Rel (k + 5) u v) v v1) u v1 := by
  refine rl_el (Q := fun u v => wpX_entries (fun r => wpY_entries (fun r' => r' = r ∧ i_Rel (k + 5) u v) v v1) u v1) ?_ I
  intro P cap f_opOut f_opBranch f_opJump f_sealed f_queued f_workLen a_code a_subject a_left a_right a_dest a_uses a_entryCount a_need a_sched a_schedLen a_held a_heldLen a_reached a_queue a_work a_picked a_inputs a_store a_outs a_outLen a_counts g_waiting g_factCount b_kind b_name b_opOf b_left b_right b_goal b_list b_leaving b_live b_seen b_facts hF
  have hF' := hF
  obtain ⟨ok, hcap, pX, pY, hol, hS⟩ := hF'
  have h20 := pg_sz20 ok
  by_cases hs : f_sealed = 0
  · exact br_t hs (br_t hs ⟨rfl, rl_in hF⟩)
  · obtain ⟨hE, hN, hC⟩ := hS hs
    rcases pk_ix v1 (n := pg_sz P) (by omega) with h | h | ⟨n, hn, rfl⟩
    · exact br_f hs (br_t h (br_t rfl (br_f hs (br_t h ⟨rfl, rl_in hF⟩))))
    · have h0 : ¬ v1 < 0 := Int32.not_lt.mpr (Int32.le_trans (nI_pos' (by omega)) h)
      have h1 : ¬ v1 < nI (pg_sz P) := Int32.not_lt.mpr h
      exact br_f hs (br_f h0 (br_t h (br_t rfl (br_f hs (br_f h0 (br_f h1 ⟨rfl, rl_in hF⟩))))))
    · have h0 : ¬ nI n < 0 := nI_pos (by omega)
      have h1 : ¬ nI (pg_sz P) ≤ nI n := nI_ge hn (by omega)
      refine br_f hs (br_f h0 (br_f h1 (br_f bb_10 (And.intro (vp_in_nI (by omega) (by omega)) ?_))))
      rw [nI_clamp (by omega), hE n hn]
      exact qy_entries ok pY hs hn ⟨rfl, rl_in hF⟩
theorem i_vc_size {k : Nat} {u : SX} {v : SY} (I : i_Rel k u v) (hk : k + 5 ≤ 2562) : wpX_size (fun r => wpY_size (fun r' => r' = r ∧ i_Rel (k + 5) u v) v) u := by
  refine rl_el (Q := fun u v => wpX_size (fun r => wpY_size (fun r' => r' = r ∧ i_Rel (k + 5) u v) v) u) ?_ I
  intro P cap f_opOut f_opBranch f_opJump f_sealed f_queued f_workLen a_code a_subject a_left a_right a_dest a_uses a_entryCount a_need a_sched a_schedLen a_held a_heldLen a_reached a_queue a_work a_picked a_inputs a_store a_outs a_outLen a_counts g_waiting g_factCount b_kind b_name b_opOf b_left b_right b_goal b_list b_leaving b_live b_seen b_facts hF
  exact And.intro rfl (rl_in hF)
end
