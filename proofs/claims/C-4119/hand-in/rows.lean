section
theorem pk_us {f : Nat → Int32} {k : Nat} {x : Int32} : upd f k x k = x := if_pos rfl
theorem pk_un {f : Nat → Int32} {k j : Nat} {x : Int32} (h : j ≠ k) : upd f k x j = f j := if_neg h
theorem pk_sub {a b : Nat} (h : b ≤ a) : nI a - nI b = nI (a - b) := by
  obtain ⟨c, rfl⟩ : ∃ c, a = c + b := ⟨a - b, by omega⟩
  rw [← nI_add, Int32.add_sub_cancel, Nat.add_sub_cancel]
theorem pk_m1 (n : Nat) : nI (n + 1) + (-1) = nI n := by
  rw [← nI_1, Int32.add_assoc, show (1 : Int32) + (-1) = 0 from rfl, Int32.add_zero]
theorem pk_mul (a b : Nat) : nI a * nI b = nI (a * b) := (Int32.ofNat_mul a b).symm
theorem pk_div {a d : Nat} (ha : a < 2 ^ 31) (h0 : 0 < d) (hd : d < 2 ^ 31) : nI a / nI d = nI (a / d) := by
  apply Int32.toInt_inj.mp
  rw [lg_idiv_nonneg (by rw [nI_toInt ha]; omega) (by rw [nI_toInt hd]; omega), nI_toInt ha, nI_toInt hd, nI_toInt (Nat.lt_of_le_of_lt (Nat.div_le_self a d) ha)]
  first | rfl | exact (Int.natCast_ediv _ _).symm
theorem pk_rem {a d : Nat} (ha : a < 2 ^ 31) (h0 : 0 < d) (hd : d < 2 ^ 31) : nI a - nI a / nI d * nI d = nI (a % d) := by
  rw [pk_div ha h0 hd, pk_mul, pk_sub (Nat.div_mul_le_self a d)]
  exact congrArg nI (by have := Nat.div_add_mod' a d; omega)
theorem pk_sub_toInt {a b : Nat} (ha : a < 2 ^ 30) (hb : b < 2 ^ 30) : (nI a - nI b).toInt = (a : Int) - b := by
  rw [Int32.toInt_sub, nI_toInt (by omega), nI_toInt (by omega)]
  exact Int.bmod_eq_of_le (by omega) (by omega)
theorem pk_sneg {a b : Nat} (hb : b < 2 ^ 30) (h : a < b) : nI a - nI b < 0 := by
  rw [Int32.lt_iff_toInt_lt, pk_sub_toInt (by omega) hb, show (0 : Int32).toInt = 0 from by decide]
  omega
theorem pk_ix (x : Int32) {n : Nat} (hn : n < 2 ^ 31) : x < 0 ∨ nI n ≤ x ∨ ∃ j : Nat, j < n ∧ x = nI j := by
  by_cases h : x < 0
  · exact Or.inl h
  · obtain ⟨j, hj, rfl⟩ := nI_of h
    by_cases h2 : j < n
    · exact Or.inr (Or.inr ⟨j, h2, rfl⟩)
    · exact Or.inr (Or.inl (nI_le (by omega) hj))
theorem pk_le {x y : Int32} {A B : Prop} (a b : Nat) (f : a ≤ b → A) (g : b < a → B) (hx : x = nI a := by rfl) (hy : y = nI b := by rfl) (ha : a < 2 ^ 31 := by omega) (hb : b < 2 ^ 31 := by omega) : (x ≤ y → A) ∧ (¬ x ≤ y → B) := by
  subst hx hy
  rw [nI_leI ha hb]
  exact ⟨f, fun z => g (by omega)⟩
theorem pk_lt {x y : Int32} {A B : Prop} (a b : Nat) (f : a < b → A) (g : b ≤ a → B) (hx : x = nI a := by rfl) (hy : y = nI b := by rfl) (ha : a < 2 ^ 31 := by omega) (hb : b < 2 ^ 31 := by omega) : (x < y → A) ∧ (¬ x < y → B) := by
  subst hx hy
  rw [nI_ltI ha hb]
  exact ⟨f, fun z => g (by omega)⟩
theorem pk_eq {x y : Int32} {A B : Prop} (a b : Nat) (f : a = b → A) (g : a ≠ b → B) (hx : x = nI a := by rfl) (hy : y = nI b := by rfl) (ha : a < 2 ^ 31 := by omega) (hb : b < 2 ^ 31 := by omega) : (x = y → A) ∧ (¬ x = y → B) := by
  subst hx hy
  rw [nI_eq ha hb]
  exact ⟨f, g⟩
theorem pk_in {x : Int32} (n N : Nat) (h : n < N) (hx : x = nI n := by rfl) (hN : N < 2 ^ 31 := by omega) : vp_in x N := by
  subst hx
  exact vp_in_nI h hN
theorem pk_cl {x : Int32} (n : Nat) (hx : x = nI n := by rfl) (h : n < 2 ^ 31 := by omega) : x.toNatClampNeg = n := by
  subst hx
  exact nI_clamp h
/-! own number rows -/
theorem ei_k256 (n : Nat) : nI n * 256 = nI (n * 256) := pk_mul n 256
theorem ei_key2 (n b : Nat) : nI n * 256 + nI b = nI (n * 256 + b) := by rw [ei_k256, nI_add]
theorem ei_div256 {k : Nat} (h : k < 2 ^ 31) : nI k / 256 = nI (k / 256) := pk_div (d := 256) h (by decide) (by decide)
theorem ei_rem256 {k : Nat} (h : k < 2 ^ 31) : nI k - nI k / 256 * 256 = nI (k % 256) := pk_rem (d := 256) h (by decide) (by decide)
/-- l - 1 as the walks hold it -/
def ei_m (l : Nat) : Int32 := nI l - 1
theorem ei_m0 : ei_m 0 = -1 := by decide
theorem ei_mS (l : Nat) : ei_m (l + 1) = nI l := nI_pred l
theorem ei_m1 (l : Nat) : nI l + (-1) = ei_m l := by
  show nI l + (-1) = nI l - 1
  rw [Int32.sub_eq_add_neg]
theorem ei_m_neg : ei_m 0 < 0 := by decide
theorem ei_m_nneg : ¬ (0 : Int32) ≤ ei_m 0 := by decide
/-- an int as a block, as a size -/
def ei_badB (v : Int32) : Prop := v < 0 ∨ (¬ v < 0 ∧ ¬ v < 256 ∧ ¬ v ≤ 255)
def ei_badS (v : Int32) : Prop := v < 1 ∨ (¬ v < 1 ∧ ¬ v ≤ 256)
theorem ei_blk (v : Int32) : ei_badB v ∨ ∃ b : Nat, b < 256 ∧ v = nI b := by
  by_cases h : v < 0
  · exact Or.inl (Or.inl h)
  · obtain ⟨j, hj, rfl⟩ := nI_of h
    by_cases h2 : j < 256
    · exact Or.inr ⟨j, h2, rfl⟩
    · exact Or.inl (Or.inr ⟨h, nI_nlt (b := 256) (by omega) hj, nI_ge (a := 255) (by omega) hj⟩)
theorem ei_siz (v : Int32) : ei_badS v ∨ ∃ n : Nat, 1 ≤ n ∧ n ≤ 256 ∧ v = nI n := by
  by_cases h : v < 1
  · exact Or.inl (Or.inl h)
  · have h0 : ¬ v < 0 := fun z => h (Int32.lt_trans z (by decide))
    obtain ⟨j, hj, rfl⟩ := nI_of h0
    have h1 : 1 ≤ j := by
      rcases Nat.eq_zero_or_pos j with z | z
      · subst z
        exact absurd (by decide) h
      · exact z
    by_cases h2 : j ≤ 256
    · exact Or.inr ⟨j, h1, h2, rfl⟩
    · exact Or.inl (Or.inr ⟨h, nI_ge (a := 256) (by omega) hj⟩)
theorem ei_xbB1 {post : Int32 → Prop} {v : Int32} (h : ei_badB v) (H : post 1) : wpX_badBlock post v := by
  rcases h with h | ⟨h1, h2, _⟩
  · exact br_t h H
  · exact br_f h1 (br_f h2 H)
theorem ei_ybB1 {post : Int32 → Prop} {a : SY} {v : Int32} (h : ei_badB v) (H : post 1) : wpY_badBlock post a v := by
  rcases h with h | ⟨h1, _, h2⟩
  · exact br_t h H
  · exact br_f h1 (br_f h2 H)
theorem ei_xbB0 {post : Int32 → Prop} {b : Nat} (h : b < 256) (H : post 0) : wpX_badBlock post (nI b) :=
  br_f (nI_pos (by omega)) (br_t (nI_lt (b := 256) h (by decide)) H)
theorem ei_ybB0 {post : Int32 → Prop} {a : SY} {b : Nat} (h : b < 256) (H : post 0) : wpY_badBlock post a (nI b) :=
  br_f (nI_pos (by omega)) (br_t (nI_le (b := 255) (by omega) (by decide)) H)
theorem ei_xbS1 {post : Int32 → Prop} {v : Int32} (h : ei_badS v) (H : post 1) : wpX_badSize post v := by
  rcases h with h | ⟨h1, h2⟩
  · exact br_t h H
  · exact br_f h1 (br_f h2 H)
theorem ei_ybS1 {post : Int32 → Prop} {a : SY} {v : Int32} (h : ei_badS v) (H : post 1) : wpY_badSize post a v := by
  rcases h with h | ⟨h1, h2⟩
  · exact br_t h H
  · exact br_f h1 (br_f h2 H)
theorem ei_xbS0 {post : Int32 → Prop} {n : Nat} (h1 : 1 ≤ n) (h2 : n ≤ 256) (H : post 0) : wpX_badSize post (nI n) :=
  br_f (nI_nlt (b := 1) h1 (by omega)) (br_t (nI_le (b := 256) h2 (by decide)) H)
theorem ei_ybS0 {post : Int32 → Prop} {a : SY} {n : Nat} (h1 : 1 ≤ n) (h2 : n ≤ 256) (H : post 0) : wpY_badSize post a (nI n) :=
  br_f (nI_nlt (b := 1) h1 (by omega)) (br_t (nI_le (b := 256) h2 (by decide)) H)
/-- both sides refuse by -2 on a size, by -1 on a block: the three of them -/
theorem ei_xbeyond1 {post : Int32 → Prop} {b : Nat} {v : Int32} (h : ei_badS v) (H : post 1) : wpX_beyond post (nI b) v := by
  unfold wpX_beyond
  exact ei_xbS1 h (br_f (by decide) H)
theorem ei_xbeyond2 {post : Int32 → Prop} {b n : Nat} (hb : b < 256) (h1 : 1 ≤ n) (h2 : n ≤ 256) (h : 256 < b + n) (H : post 1) : wpX_beyond post (nI b) (nI n) := by
  unfold wpX_beyond
  refine ei_xbS0 h1 h2 (br_t rfl ?_)
  rw [nI_add]
  exact br_f (nI_ge (a := 256) h (by omega)) H
theorem ei_xbeyond0 {post : Int32 → Prop} {b n : Nat} (hb : b < 256) (h1 : 1 ≤ n) (h : b + n ≤ 256) (H : post 0) : wpX_beyond post (nI b) (nI n) := by
  unfold wpX_beyond
  refine ei_xbS0 h1 (by omega) (br_t rfl ?_)
  rw [nI_add]
  exact br_t (nI_le (b := 256) h (by decide)) H
theorem ei_yrefB {post : Int32 → Prop} {a : SY} {v w : Int32} (h : ei_badB v) (H : post (-1)) : wpY_refusal post a v w := by
  unfold wpY_refusal
  exact ei_ybB1 h (br_f (by decide) H)
theorem ei_yrefS {post : Int32 → Prop} {a : SY} {b : Nat} {w : Int32} (hb : b < 256) (h : ei_badS w) (H : post (-2)) : wpY_refusal post a (nI b) w := by
  unfold wpY_refusal
  refine ei_ybB0 hb (br_t rfl ?_)
  exact ei_ybS1 h (br_f (by decide) H)
theorem ei_256sub {b : Nat} (hb : b < 256) : (256 : Int32) - nI b = nI (256 - b) := pk_sub (a := 256) (by omega)
theorem ei_yref2 {post : Int32 → Prop} {a : SY} {b n : Nat} (hb : b < 256) (h1 : 1 ≤ n) (h2 : n ≤ 256) (h : 256 < b + n) (H : post (-2)) : wpY_refusal post a (nI b) (nI n) := by
  unfold wpY_refusal
  refine ei_ybB0 hb (br_t rfl ?_)
  refine ei_ybS0 h1 h2 (br_t rfl ?_)
  rw [ei_256sub hb]
  exact br_f (nI_ge (by omega) (by omega)) H
theorem ei_yref0 {post : Int32 → Prop} {a : SY} {b n : Nat} (hb : b < 256) (h1 : 1 ≤ n) (h : b + n ≤ 256) (H : post 0) : wpY_refusal post a (nI b) (nI n) := by
  unfold wpY_refusal
  refine ei_ybB0 hb (br_t rfl ?_)
  refine ei_ybS0 h1 (by omega) (br_t rfl ?_)
  rw [ei_256sub hb]
  exact br_t (nI_le (by omega) (by omega)) H
end
section
/-! counts, runs of free blocks, begins of extents, stretches set, enumerations: no program in sight -/
theorem ei_nt {x : Bool} (h : ¬ x = true) : x = false := by
  cases x with
  | true => exact absurd rfl h
  | false => rfl
theorem ei_tf {x : Bool} (h : x = true) (g : x = false) : False := by
  rw [h] at g
  exact absurd g (by decide)
def ei_cnt (P : Nat → Bool) : Nat → Nat
  | 0 => 0
  | n + 1 => ei_cnt P n + (if P n = true then 1 else 0)
theorem ei_cnt_t {P : Nat → Bool} {n : Nat} (h : P n = true) : ei_cnt P (n + 1) = ei_cnt P n + 1 := by
  show ei_cnt P n + (if P n = true then 1 else 0) = _
  rw [if_pos h]
theorem ei_cnt_f {P : Nat → Bool} {n : Nat} (h : P n = false) : ei_cnt P (n + 1) = ei_cnt P n := by
  show ei_cnt P n + (if P n = true then 1 else 0) = _
  rw [if_neg (fun z => ei_tf z h)]
  rfl
theorem ei_cnt_le (P : Nat → Bool) (n : Nat) : ei_cnt P n ≤ n := by
  induction n with
  | zero => exact Nat.le_refl 0
  | succ n ih =>
    cases h : P n with
    | true => rw [ei_cnt_t h]; omega
    | false => rw [ei_cnt_f h]; omega
theorem ei_cnt_mono (P : Nat → Bool) {m n : Nat} (h : m ≤ n) : ei_cnt P m ≤ ei_cnt P n := by
  induction n with
  | zero =>
    have e : m = 0 := by omega
    rw [e]
    exact Nat.le_refl _
  | succ n ih =>
    by_cases e : m = n + 1
    · rw [e]
      exact Nat.le_refl _
    · have h1 := ih (by omega)
      cases hp : P n with
      | true => rw [ei_cnt_t hp]; omega
      | false => rw [ei_cnt_f hp]; exact h1
theorem ei_cnt_congr {P Q : Nat → Bool} : ∀ n, (∀ x, x < n → P x = Q x) → ei_cnt P n = ei_cnt Q n := by
  intro n
  induction n with
  | zero => intro _; rfl
  | succ n ih =>
    intro h
    have h1 := ih (fun x hx => h x (by omega))
    have h2 := h n (by omega)
    cases hp : Q n with
    | true => rw [ei_cnt_t hp, ei_cnt_t (h2.trans hp), h1]
    | false => rw [ei_cnt_f hp, ei_cnt_f (h2.trans hp), h1]
theorem ei_cnt_0 {P : Nat → Bool} : ∀ n, (∀ x, x < n → P x = false) → ei_cnt P n = 0 := by
  intro n
  induction n with
  | zero => intro _; rfl
  | succ n ih =>
    intro h
    rw [ei_cnt_f (h n (by omega))]
    exact ih (fun x hx => h x (by omega))
theorem ei_cnt_pos {P : Nat → Bool} {n x : Nat} (hx : x < n) (h : P x = true) : 0 < ei_cnt P n := by
  have h1 := ei_cnt_mono P (m := x + 1) (n := n) hx
  rw [ei_cnt_t h] at h1
  omega
/-! runs -/
def ei_rn (F : Nat → Bool) : Nat → Nat → Nat
  | 0 => fun _ => 0
  | d + 1 => fun b => if F b = true then ei_rn F d (b + 1) + 1 else 0
def ei_run (F : Nat → Bool) (b : Nat) : Nat := ei_rn F 256 b
def ei_Z (F : Nat → Bool) : Prop := ∀ b, 256 ≤ b → F b = false
def ei_beg (F : Nat → Bool) (b : Nat) : Bool := F b && (b == 0 || !F (b - 1))
def ei_key (F : Nat → Bool) (k : Nat) : Bool := ei_beg F (k % 256) && (ei_run F (k % 256) == k / 256)
section
variable {F : Nat → Bool}
theorem ei_rn_spec (hF : ei_Z F) : ∀ d b, 256 ≤ b + d → (∀ x, b ≤ x → x < b + ei_rn F d b → F x = true) ∧ F (b + ei_rn F d b) = false := by
  intro d
  induction d with
  | zero =>
    intro b h
    have e : ei_rn F 0 b = 0 := rfl
    rw [e]
    exact ⟨fun x h1 h2 => absurd h2 (by omega), hF _ (by omega)⟩
  | succ d ih =>
    intro b h
    cases hb : F b with
    | false =>
      have e : ei_rn F (d + 1) b = 0 := if_neg (fun z => ei_tf z hb)
      rw [e]
      exact ⟨fun x h1 h2 => absurd h2 (by omega), hb⟩
    | true =>
      have e : ei_rn F (d + 1) b = ei_rn F d (b + 1) + 1 := if_pos hb
      obtain ⟨h1, h2⟩ := ih (b + 1) (by omega)
      rw [e]
      refine ⟨fun x hx1 hx2 => ?_, ?_⟩
      · by_cases ex : x = b
        · rw [ex]; exact hb
        · exact h1 x (by omega) (by omega)
      · have e2 : b + (ei_rn F d (b + 1) + 1) = b + 1 + ei_rn F d (b + 1) := by omega
        rw [e2]; exact h2
theorem ei_run_t (hF : ei_Z F) {b x : Nat} (h1 : b ≤ x) (h2 : x < b + ei_run F b) : F x = true := (ei_rn_spec hF 256 b (by omega)).1 x h1 h2
theorem ei_run_f (hF : ei_Z F) (b : Nat) : F (b + ei_run F b) = false := (ei_rn_spec hF 256 b (by omega)).2
theorem ei_run_eq (hF : ei_Z F) {b r : Nat} (h1 : ∀ x, b ≤ x → x < b + r → F x = true) (h2 : F (b + r) = false) : ei_run F b = r := by
  rcases Nat.lt_trichotomy (ei_run F b) r with h | h | h
  · exact (ei_tf (h1 (b + ei_run F b) (by omega) (by omega)) (ei_run_f hF b)).elim
  · exact h
  · exact (ei_tf (ei_run_t hF (b := b) (x := b + r) (by omega) (by omega)) h2).elim
theorem ei_F_lt (hF : ei_Z F) {b : Nat} (h : F b = true) : b < 256 := Nat.lt_of_not_le fun z => ei_tf h (hF b z)
theorem ei_run_le (hF : ei_Z F) {b : Nat} (hb : b ≤ 256) : b + ei_run F b ≤ 256 := by
  by_cases z : ei_run F b = 0
  · omega
  · have h := ei_F_lt hF (ei_run_t hF (b := b) (x := b + ei_run F b - 1) (by omega) (by omega))
    omega
theorem ei_run_pos (hF : ei_Z F) {b : Nat} (h : F b = true) : 0 < ei_run F b := by
  rcases Nat.eq_zero_or_pos (ei_run F b) with z | z
  · have e := ei_run_f hF b
    rw [z] at e
    exact (ei_tf h e).elim
  · exact z
theorem ei_run_0 (hF : ei_Z F) {b : Nat} (h : F b = false) : ei_run F b = 0 := ei_run_eq hF (fun x h1 h2 => absurd h2 (by omega)) h
theorem ei_beg_iff {b : Nat} : ei_beg F b = true ↔ F b = true ∧ (b = 0 ∨ F (b - 1) = false) := by
  unfold ei_beg
  rw [Bool.and_eq_true, Bool.or_eq_true, beq_iff_eq, Bool.not_eq_true']
theorem ei_beg_F {b : Nat} (h : ei_beg F b = true) : F b = true := (ei_beg_iff.mp h).1
theorem ei_beg_p {b : Nat} (h : ei_beg F b = true) (h0 : b ≠ 0) : F (b - 1) = false := by
  rcases (ei_beg_iff.mp h).2 with z | z
  · exact absurd z h0
  · exact z
theorem ei_key_iff {k : Nat} : ei_key F k = true ↔ ei_beg F (k % 256) = true ∧ ei_run F (k % 256) = k / 256 := by
  unfold ei_key
  rw [Bool.and_eq_true, beq_iff_eq]
theorem ei_key_mk (hF : ei_Z F) {b : Nat} (h : ei_beg F b = true) : ei_key F (ei_run F b * 256 + b) = true := by
  have hb := ei_F_lt hF (ei_beg_F h)
  have e1 : (ei_run F b * 256 + b) % 256 = b := by omega
  have e2 : (ei_run F b * 256 + b) / 256 = ei_run F b := by omega
  rw [ei_key_iff, e1, e2]
  exact ⟨h, rfl⟩
theorem ei_key_lt (hF : ei_Z F) {k : Nat} (h : ei_key F k = true) : k < 65792 ∧ 256 ≤ k := by
  obtain ⟨h1, h2⟩ := ei_key_iff.mp h
  have h3 := ei_run_le hF (b := k % 256) (by omega)
  have h4 := ei_run_pos hF (ei_beg_F h1)
  omega
/-- every free block lies in an extent -/
theorem ei_cover (hF : ei_Z F) : ∀ b, F b = true → ∃ s, s ≤ b ∧ ei_beg F s = true ∧ b < s + ei_run F s := by
  intro b
  induction b with
  | zero =>
    intro h
    have h1 := ei_run_pos hF h
    exact ⟨0, Nat.le_refl 0, ei_beg_iff.mpr ⟨h, Or.inl rfl⟩, by omega⟩
  | succ b ih =>
    intro h
    cases hb : F b with
    | true =>
      obtain ⟨s, h1, h2, h3⟩ := ih hb
      refine ⟨s, by omega, h2, ?_⟩
      by_cases e : b + 1 = s + ei_run F s
      · have h4 := ei_run_f hF s
        rw [← e] at h4
        exact (ei_tf h h4).elim
      · omega
    | false =>
      have h1 := ei_run_pos hF h
      exact ⟨b + 1, Nat.le_refl _, ei_beg_iff.mpr ⟨h, Or.inr hb⟩, by omega⟩
theorem ei_run_in (hF : ei_Z F) {s b : Nat} (h1 : s ≤ b) (h2 : b < s + ei_run F s) : ei_run F b = s + ei_run F s - b := by
  refine ei_run_eq hF (fun x hx1 hx2 => ei_run_t hF (b := s) (by omega) (by omega)) ?_
  have e : b + (s + ei_run F s - b) = s + ei_run F s := by omega
  rw [e]
  exact ei_run_f hF s
/-- a later begin lies behind a taken block -/
theorem ei_sep (hF : ei_Z F) {s t : Nat} (h : s < t) (hb : ei_beg F t = true) : s + ei_run F s < t := by
  refine Nat.lt_of_not_le fun z => ?_
  by_cases e : t = s + ei_run F s
  · have h4 := ei_run_f hF s
    rw [← e] at h4
    exact ei_tf (ei_beg_F hb) h4
  · exact ei_tf (ei_run_t hF (b := s) (x := t - 1) (by omega) (by omega)) (ei_beg_p hb (by omega))
/-- the extent around a block is one -/
theorem ei_ext_u (hF : ei_Z F) {s t b : Nat} (hs : ei_beg F s = true) (ht : ei_beg F t = true) (h1 : s ≤ b) (h2 : b < s + ei_run F s) (h3 : t ≤ b) (h4 : b < t + ei_run F t) : s = t := by
  rcases Nat.lt_trichotomy s t with h | h | h
  · have := ei_sep hF h ht
    omega
  · exact h
  · have := ei_sep hF h hs
    omega
theorem ei_cnt_half (F : Nat → Bool) : ∀ m, ei_cnt (ei_beg F) (2 * m) ≤ m := by
  intro m
  induction m with
  | zero => exact Nat.le_refl 0
  | succ m ih =>
    have e : 2 * (m + 1) = 2 * m + 1 + 1 := by omega
    rw [e]
    cases h1 : ei_beg F (2 * m + 1) with
    | false =>
      rw [ei_cnt_f h1]
      cases h0 : ei_beg F (2 * m) with
      | false => rw [ei_cnt_f h0]; omega
      | true => rw [ei_cnt_t h0]; omega
    | true =>
      have h0 : ei_beg F (2 * m) = false := ei_nt fun z => by
        have y := ei_beg_p h1 (by omega)
        have e1 : 2 * m + 1 - 1 = 2 * m := by omega
        rw [e1] at y
        exact ei_tf (ei_beg_F z) y
      rw [ei_cnt_t h1, ei_cnt_f h0]
      omega
theorem ei_cnt128 (F : Nat → Bool) : ei_cnt (ei_beg F) 256 ≤ 128 := ei_cnt_half F 128
end
/-! a stretch set -/
def ei_set (F : Nat → Bool) (a n : Nat) (v : Bool) : Nat → Bool := fun x => if a ≤ x ∧ x < a + n then v else F x
theorem ei_set_in {F : Nat → Bool} {a n x : Nat} {v : Bool} (h1 : a ≤ x) (h2 : x < a + n) : ei_set F a n v x = v := if_pos ⟨h1, h2⟩
theorem ei_set_out {F : Nat → Bool} {a n x : Nat} {v : Bool} (h : ¬ (a ≤ x ∧ x < a + n)) : ei_set F a n v x = F x := if_neg h
theorem ei_set_Z {F : Nat → Bool} {a n : Nat} {v : Bool} (hF : ei_Z F) (h : a + n ≤ 256) : ei_Z (ei_set F a n v) := fun b hb => by
  rw [ei_set_out (by omega)]
  exact hF b hb
def ei_room (F : Nat → Bool) (a n : Nat) : Prop := ei_Z F ∧ 1 ≤ n ∧ a + n ≤ 256 ∧ (∀ x, a ≤ x → x < a + n → F x = false) ∧ (a = 0 ∨ F (a - 1) = false) ∧ F (a + n) = false
section
variable {F : Nat → Bool} {a n : Nat}
theorem ei_beg_set (R : ei_room F a n) (b : Nat) : ei_beg (ei_set F a n true) b = true ↔ ei_beg F b = true ∨ b = a := by
  obtain ⟨hF, hn, hl, hr, hp, he⟩ := R
  rw [ei_beg_iff, ei_beg_iff]
  by_cases hin : a ≤ b ∧ b < a + n
  · have hFb := hr b hin.1 hin.2
    rw [ei_set_in hin.1 hin.2]
    by_cases e : b = a
    · subst e
      refine ⟨fun _ => Or.inr rfl, fun _ => ⟨rfl, ?_⟩⟩
      rcases hp with z | z
      · exact Or.inl z
      · by_cases e0 : b = 0
        · exact Or.inl e0
        · refine Or.inr ?_
          rw [ei_set_out (by omega)]
          exact z
    · refine ⟨fun z => ?_, fun z => ?_⟩
      · rcases z.2 with z | z
        · omega
        · rw [ei_set_in (by omega) (by omega)] at z
          exact absurd z (by decide)
      · rcases z with z | z
        · exact (ei_tf z.1 hFb).elim
        · exact absurd z e
  · rw [ei_set_out hin]
    have ea : b ≠ a := by omega
    by_cases e0 : b = 0
    · exact ⟨fun z => Or.inl ⟨z.1, Or.inl e0⟩, fun z => ⟨(z.resolve_right ea).1, Or.inl e0⟩⟩
    · by_cases hin2 : a ≤ b - 1 ∧ b - 1 < a + n
      · have eb : b = a + n := by omega
        rw [ei_set_in hin2.1 hin2.2]
        refine ⟨fun z => ?_, fun z => ?_⟩
        · rcases z.2 with z | z
          · exact absurd z e0
          · exact absurd z (by decide)
        · have z1 := (z.resolve_right ea).1
          rw [eb] at z1
          exact (ei_tf z1 he).elim
      · rw [ei_set_out hin2]
        exact ⟨fun z => Or.inl z, fun z => z.resolve_right ea⟩
theorem ei_run_set (R : ei_room F a n) {b : Nat} (hb : ei_beg F b = true) : ei_run (ei_set F a n true) b = ei_run F b := by
  obtain ⟨hF, hn, hl, hr, hp, he⟩ := R
  have hZ : ei_Z (ei_set F a n true) := ei_set_Z hF hl
  refine ei_run_eq hZ (fun x h1 h2 => ?_) ?_
  · by_cases hin : a ≤ x ∧ x < a + n
    · exact ei_set_in hin.1 hin.2
    · rw [ei_set_out hin]
      exact ei_run_t hF h1 h2
  · have hf := ei_run_f hF b
    have ht := ei_beg_F hb
    rw [ei_set_out fun hin => ?_]
    · exact hf
    · by_cases g : b < a
      · rcases hp with z | z
        · omega
        · exact ei_tf (ei_run_t hF (b := b) (x := a - 1) (by omega) (by omega)) z
      · exact ei_tf ht (hr b (by omega) (by omega))
theorem ei_run_new (R : ei_room F a n) : ei_run (ei_set F a n true) a = n := by
  obtain ⟨hF, hn, hl, hr, hp, he⟩ := R
  have hZ : ei_Z (ei_set F a n true) := ei_set_Z hF hl
  refine ei_run_eq hZ (fun x h1 h2 => ei_set_in h1 h2) ?_
  rw [ei_set_out (by omega)]
  exact he
theorem ei_beg_no (R : ei_room F a n) : ei_beg F a = false := ei_nt fun z => ei_tf (ei_beg_F z) (R.2.2.2.1 a (Nat.le_refl a) (by have := R.2.1; omega))
theorem ei_key_set (R : ei_room F a n) (k : Nat) : ei_key (ei_set F a n true) k = true ↔ ei_key F k = true ∨ k = n * 256 + a := by
  have hl := R.2.2.1
  have hn := R.2.1
  rw [ei_key_iff, ei_key_iff, ei_beg_set R]
  constructor
  · rintro ⟨h1 | h1, h2⟩
    · rw [ei_run_set R h1] at h2
      exact Or.inl ⟨h1, h2⟩
    · rw [h1, ei_run_new R] at h2
      exact Or.inr (by omega)
  · rintro (⟨h1, h2⟩ | h)
    · rw [ei_run_set R h1]
      exact ⟨Or.inl h1, h2⟩
    · have e1 : k % 256 = a := by omega
      have e2 : k / 256 = n := by omega
      rw [e1, e2, ei_run_new R]
      exact ⟨Or.inr rfl, rfl⟩
theorem ei_cnt_set (R : ∀ x, a ≤ x → x < a + n → F x = false) : ∀ N, ei_cnt (ei_set F a n true) N = ei_cnt F N + (if N ≤ a then 0 else if N ≤ a + n then N - a else n) := by
  intro N
  induction N with
  | zero => rw [if_pos (Nat.zero_le a)]; rfl
  | succ N ih =>
    by_cases hin : a ≤ N ∧ N < a + n
    · rw [ei_cnt_t (ei_set_in hin.1 hin.2), ei_cnt_f (R N hin.1 hin.2), ih, if_neg (show ¬ N + 1 ≤ a by omega), if_pos (show N + 1 ≤ a + n by omega)]
      by_cases g : N ≤ a
      · rw [if_pos g]; omega
      · rw [if_neg g, if_pos (by omega)]; omega
    · have e : (if N + 1 ≤ a then 0 else if N + 1 ≤ a + n then N + 1 - a else n) = (if N ≤ a then 0 else if N ≤ a + n then N - a else n) := by
        by_cases g : N + 1 ≤ a
        · rw [if_pos g, if_pos (by omega)]
        · rw [if_neg g]
          by_cases g0 : n = 0
          · subst g0
            by_cases g1 : N + 1 ≤ a + 0
            · exact absurd g1 (by omega)
            · rw [if_neg g1]
              by_cases g2 : N ≤ a
              · rw [if_pos g2]
              · rw [if_neg g2, if_neg (by omega)]
          · rw [if_neg (show ¬ N + 1 ≤ a + n by omega), if_neg (show ¬ N ≤ a by omega)]
            by_cases g3 : N ≤ a + n
            · rw [if_pos g3]; omega
            · rw [if_neg g3]
      have e1 : ei_set F a n true N = F N := ei_set_out hin
      rw [e]
      cases h : F N with
      | true => rw [ei_cnt_t (e1.trans h), ei_cnt_t h, ih]; omega
      | false => rw [ei_cnt_f (e1.trans h), ei_cnt_f h, ih]
theorem ei_cnt_set256 (R : ei_room F a n) : ei_cnt (ei_set F a n true) 256 = ei_cnt F 256 + n := by
  obtain ⟨hF, hn, hl, hr, hp, he⟩ := R
  rw [ei_cnt_set hr, if_neg (by omega)]
  by_cases g : 256 ≤ a + n
  · rw [if_pos g]; omega
  · rw [if_neg g]
/-- taking an extent out, and the same put back -/
theorem ei_set_del {r : Nat} (hr : ∀ x, a ≤ x → x < a + r → F x = true) : ei_set (ei_set F a r false) a r true = F := by
  funext x
  by_cases h : a ≤ x ∧ x < a + r
  · rw [ei_set_in h.1 h.2, hr x h.1 h.2]
  · rw [ei_set_out h, ei_set_out h]
theorem ei_room_del (hF : ei_Z F) (hb : ei_beg F a = true) : ei_room (ei_set F a (ei_run F a) false) a (ei_run F a) := by
  have h1 := ei_run_pos hF (ei_beg_F hb)
  have h2 := ei_run_le hF (b := a) (Nat.le_of_lt (ei_F_lt hF (ei_beg_F hb)))
  refine ⟨ei_set_Z hF h2, h1, h2, fun x g1 g2 => ei_set_in g1 g2, ?_, ?_⟩
  · by_cases e : a = 0
    · exact Or.inl e
    · refine Or.inr ?_
      rw [ei_set_out (by omega)]
      exact ei_beg_p hb e
  · rw [ei_set_out (by omega)]
    exact ei_run_f hF a
theorem ei_set_del' (hF : ei_Z F) : ei_set (ei_set F a (ei_run F a) false) a (ei_run F a) true = F := ei_set_del fun _ h1 h2 => ei_run_t hF h1 h2
theorem ei_beg_del (hF : ei_Z F) (hb : ei_beg F a = true) (b : Nat) : ei_beg (ei_set F a (ei_run F a) false) b = true ↔ ei_beg F b = true ∧ b ≠ a := by
  have R := ei_room_del hF hb
  have h := ei_beg_set R b
  rw [ei_set_del' hF] at h
  have h0 := ei_beg_no R
  constructor
  · intro z
    refine ⟨h.mpr (Or.inl z), fun e => ?_⟩
    rw [e] at z
    exact ei_tf z h0
  · intro z
    exact (h.mp z.1).resolve_right z.2
theorem ei_run_del (hF : ei_Z F) (hb : ei_beg F a = true) {b : Nat} (h : ei_beg F b = true) (hne : b ≠ a) : ei_run (ei_set F a (ei_run F a) false) b = ei_run F b := by
  have R := ei_room_del hF hb
  have h1 := ei_run_set R ((ei_beg_del hF hb b).mpr ⟨h, hne⟩)
  rw [ei_set_del' hF] at h1
  exact h1.symm
theorem ei_key_del (hF : ei_Z F) (hb : ei_beg F a = true) (k : Nat) : ei_key (ei_set F a (ei_run F a) false) k = true ↔ ei_key F k = true ∧ k ≠ ei_run F a * 256 + a := by
  have R := ei_room_del hF hb
  have h := ei_key_set R k
  rw [ei_set_del' hF] at h
  have h0 := ei_beg_no R
  have h2 := ei_F_lt hF (ei_beg_F hb)
  constructor
  · intro z
    refine ⟨h.mpr (Or.inl z), fun e => ?_⟩
    have z1 := (ei_key_iff.mp z).1
    have e1 : k % 256 = a := by omega
    rw [e1] at z1
    exact ei_tf z1 h0
  · intro z
    exact (h.mp z.1).resolve_right z.2
theorem ei_cnt_del (hF : ei_Z F) (hb : ei_beg F a = true) : ei_cnt F 256 = ei_cnt (ei_set F a (ei_run F a) false) 256 + ei_run F a := by
  have R := ei_room_del hF hb
  have h := ei_cnt_set256 R
  rw [ei_set_del' hF] at h
  exact h
end
end
section
/-! a set listed in strict order by an array: its counts, one more, one less -/
def ei_en (q : Nat → Nat) (c : Nat) (S : Nat → Bool) : Prop := (∀ i j, i < j → j < c → q i < q j) ∧ (∀ j, j < c → S (q j) = true) ∧ (∀ x, S x = true → ∃ j, j < c ∧ q j = x)
def ei_ins {α : Type} (q : Nat → α) (i : Nat) (x : α) : Nat → α := fun j => if j < i then q j else if j = i then x else q (j - 1)
def ei_del {α : Type} (q : Nat → α) (i : Nat) : Nat → α := fun j => if j < i then q j else q (j + 1)
theorem ei_ins_lt {α : Type} {q : Nat → α} {i j : Nat} {x : α} (h : j < i) : ei_ins q i x j = q j := if_pos h
theorem ei_ins_eq {α : Type} {q : Nat → α} {i : Nat} {x : α} : ei_ins q i x i = x := by
  unfold ei_ins
  rw [if_neg (Nat.lt_irrefl i), if_pos rfl]
theorem ei_ins_gt {α : Type} {q : Nat → α} {i j : Nat} {x : α} (h : i < j) : ei_ins q i x j = q (j - 1) := by
  unfold ei_ins
  rw [if_neg (by omega), if_neg (by omega)]
theorem ei_del_lt {α : Type} {q : Nat → α} {i j : Nat} (h : j < i) : ei_del q i j = q j := if_pos h
theorem ei_del_ge {α : Type} {q : Nat → α} {i j : Nat} (h : i ≤ j) : ei_del q i j = q (j + 1) := if_neg (by omega)
/-- where a number would stand -/
theorem ei_part {q : Nat → Nat} (x : Nat) : ∀ c, (∀ i j, i < j → j < c → q i < q j) → ∃ i, i ≤ c ∧ ∀ j, j < c → (j < i ↔ q j < x) := by
  intro c
  induction c with
  | zero => intro _; exact ⟨0, Nat.le_refl 0, fun j hj => absurd hj (Nat.not_lt_zero j)⟩
  | succ c ih =>
    intro h
    by_cases g : q c < x
    · refine ⟨c + 1, Nat.le_refl _, fun j hj => ⟨fun _ => ?_, fun _ => hj⟩⟩
      by_cases e : j = c
      · rw [e]; exact g
      · exact Nat.lt_trans (h j c (by omega) (by omega)) g
    · obtain ⟨i, hi, hq⟩ := ih (fun i j h1 h2 => h i j h1 (by omega))
      refine ⟨i, by omega, fun j hj => ?_⟩
      by_cases e : j = c
      · rw [e]
        exact ⟨fun z => absurd z (by omega), fun z => absurd z g⟩
      · exact hq j (by omega)
section
variable {q : Nat → Nat} {c : Nat} {S : Nat → Bool}
theorem ei_en_cnt (E : ei_en q c S) : ∀ x i, i ≤ c → (∀ j, j < c → (j < i ↔ q j < x)) → ei_cnt S x = i := by
  intro x
  induction x with
  | zero =>
    intro i hi h
    rcases Nat.eq_zero_or_pos i with z | z
    · rw [z]; rfl
    · exact absurd ((h 0 (by omega)).mp z) (Nat.not_lt_zero _)
  | succ x ih =>
    intro i hi h
    cases hS : S x with
    | true =>
      obtain ⟨j, hj, ej⟩ := E.2.2 x hS
      have hji : j < i := (h j hj).mpr (by omega)
      have e : j + 1 = i := by
        by_cases g : j + 1 < i
        · have h1 := (h (j + 1) (by omega)).mp g
          have h2 := E.1 j (j + 1) (by omega) (by omega)
          omega
        · omega
      rw [ei_cnt_t hS, ih j (by omega) (fun m hm => ?_)]
      · exact e
      · rcases Nat.lt_trichotomy m j with g | g | g
        · have := E.1 m j g hj
          omega
        · rw [g]; omega
        · have := E.1 j m g hm
          omega
    | false =>
      rw [ei_cnt_f hS]
      refine ih i hi (fun m hm => ?_)
      have h1 := h m hm
      have h2 : q m ≠ x := fun e => by
        have := E.2.1 m hm
        rw [e] at this
        exact ei_tf this hS
      omega
theorem ei_en_mono (E : ei_en q c S) {i j : Nat} (h : i ≤ j) (hj : j < c) : q i ≤ q j := by
  by_cases e : i = j
  · rw [e]; exact Nat.le_refl _
  · exact Nat.le_of_lt (E.1 i j (by omega) hj)
theorem ei_en_inj (E : ei_en q c S) {i j : Nat} (hi : i < c) (hj : j < c) (h : q i = q j) : i = j := by
  rcases Nat.lt_trichotomy i j with g | g | g
  · have := E.1 i j g hj
    omega
  · exact g
  · have := E.1 j i g hi
    omega
/-- the count below a listed number is its index -/
theorem ei_en_at (E : ei_en q c S) {i : Nat} (hi : i < c) : ei_cnt S (q i) = i := by
  refine ei_en_cnt E (q i) i (Nat.le_of_lt hi) (fun j hj => ?_)
  rcases Nat.lt_trichotomy j i with g | g | g
  · have := E.1 j i g hi
    omega
  · rw [g]; omega
  · have := E.1 i j g hj
    omega
theorem ei_en_all (E : ei_en q c S) {N : Nat} (hN : ∀ x, S x = true → x < N) : ei_cnt S N = c :=
  ei_en_cnt E N c (Nat.le_refl c) (fun j hj => ⟨fun _ => hN _ (E.2.1 j hj), fun _ => hj⟩)
theorem ei_en_ins (E : ei_en q c S) {i x : Nat} {S' : Nat → Bool} (hi : i ≤ c) (hq : ∀ j, j < c → (j < i ↔ q j < x)) (hx : S x = false) (hS : ∀ y, S' y = true ↔ S y = true ∨ y = x) : ei_en (ei_ins q i x) (c + 1) S' := by
  have hlt : ∀ j, j < i → q j < x := fun j hj => (hq j (by omega)).mp hj
  have hgt : ∀ j, i ≤ j → j < c → x < q j := fun j h1 h2 => by
    have h3 := hq j h2
    have h4 : q j ≠ x := fun e => by
      have := E.2.1 j h2
      rw [e] at this
      exact ei_tf this hx
    omega
  refine ⟨fun m j h1 h2 => ?_, fun j hj => ?_, fun y hy => ?_⟩
  · rcases Nat.lt_trichotomy m i with g | g | g
    · rw [ei_ins_lt g]
      rcases Nat.lt_trichotomy j i with k | k | k
      · rw [ei_ins_lt k]
        exact E.1 m j h1 (by omega)
      · rw [k, ei_ins_eq]
        exact hlt m g
      · rw [ei_ins_gt k]
        exact Nat.lt_trans (hlt m g) (hgt (j - 1) (by omega) (by omega))
    · rw [g, ei_ins_eq, ei_ins_gt (by omega)]
      exact hgt (j - 1) (by omega) (by omega)
    · rw [ei_ins_gt g, ei_ins_gt (by omega)]
      exact E.1 (m - 1) (j - 1) (by omega) (by omega)
  · rcases Nat.lt_trichotomy j i with k | k | k
    · rw [ei_ins_lt k]
      exact (hS _).mpr (Or.inl (E.2.1 j (by omega)))
    · rw [k, ei_ins_eq]
      exact (hS _).mpr (Or.inr rfl)
    · rw [ei_ins_gt k]
      exact (hS _).mpr (Or.inl (E.2.1 (j - 1) (by omega)))
  · rcases (hS y).mp hy with z | z
    · obtain ⟨j, hj, e⟩ := E.2.2 y z
      by_cases g : j < i
      · exact ⟨j, by omega, by rw [ei_ins_lt g]; exact e⟩
      · refine ⟨j + 1, by omega, ?_⟩
        rw [ei_ins_gt (by omega)]
        exact e
    · exact ⟨i, by omega, by rw [ei_ins_eq]; exact z.symm⟩
theorem ei_en_del (E : ei_en q c S) {i : Nat} {S' : Nat → Bool} (hi : i < c) (hS : ∀ y, S' y = true ↔ S y = true ∧ y ≠ q i) : ei_en (ei_del q i) (c - 1) S' := by
  refine ⟨fun m j h1 h2 => ?_, fun j hj => ?_, fun y hy => ?_⟩
  · by_cases g : m < i
    · rw [ei_del_lt g]
      by_cases k : j < i
      · rw [ei_del_lt k]
        exact E.1 m j h1 (by omega)
      · rw [ei_del_ge (by omega)]
        exact E.1 m (j + 1) (by omega) (by omega)
    · rw [ei_del_ge (by omega), ei_del_ge (by omega)]
      exact E.1 (m + 1) (j + 1) (by omega) (by omega)
  · by_cases k : j < i
    · rw [ei_del_lt k]
      have := E.1 j i k hi
      exact (hS _).mpr ⟨E.2.1 j (by omega), by omega⟩
    · rw [ei_del_ge (by omega)]
      have := E.1 i (j + 1) (by omega) (by omega)
      exact (hS _).mpr ⟨E.2.1 (j + 1) (by omega), by omega⟩
  · obtain ⟨h1, h2⟩ := (hS y).mp hy
    obtain ⟨j, hj, e⟩ := E.2.2 y h1
    have hne : j ≠ i := fun z => h2 (by rw [← z]; exact e.symm)
    by_cases g : j < i
    · exact ⟨j, by omega, by rw [ei_del_lt g]; exact e⟩
    · refine ⟨j - 1, by omega, ?_⟩
      rw [ei_del_ge (by omega)]
      have e1 : j - 1 + 1 = j := by omega
      rw [e1]
      exact e
end
/-! the state of X, told by the free blocks -/
def ei_XS (F : Nat → Bool) (c : Nat) (p q : Nat → Nat) (a1 a2 a3 : Nat → Int32) : Prop :=
  ei_Z F ∧ (∀ j, j < c → a1 j = nI (p j)) ∧ (∀ j, j < c → a2 j = nI (ei_run F (p j))) ∧ (∀ j, j < c → a3 j = nI (q j)) ∧ ei_en p c (ei_beg F) ∧ ei_en q c (ei_key F)
def ei_RX (F : Nat → Bool) (u : SX) : Prop := ∃ (c : Nat) (p q : Nat → Nat) (a1 a2 a3 : Nat → Int32), u = (nI c, nI (ei_cnt F 256), a1, a2, a3) ∧ ei_XS F c p q a1 a2 a3
def ei_YR (F : Nat → Bool) (a : Nat → Int32) : Prop := ei_Z F ∧ ∀ b, b < 256 → (a b = 0 ↔ F b = true)
section
variable {F : Nat → Bool} {c : Nat} {p q : Nat → Nat} {a1 a2 a3 : Nat → Int32}
theorem ei_XS_c (I : ei_XS F c p q a1 a2 a3) : c = ei_cnt (ei_beg F) 256 := (ei_en_all I.2.2.2.2.1 fun x hx => ei_F_lt I.1 (ei_beg_F hx)).symm
theorem ei_XS_c128 (I : ei_XS F c p q a1 a2 a3) : c ≤ 128 := by
  rw [ei_XS_c I]
  exact ei_cnt128 F
theorem ei_XS_beg (I : ei_XS F c p q a1 a2 a3) {j : Nat} (hj : j < c) : ei_beg F (p j) = true := I.2.2.2.2.1.2.1 j hj
theorem ei_XS_p (I : ei_XS F c p q a1 a2 a3) {j : Nat} (hj : j < c) : p j < 256 := ei_F_lt I.1 (ei_beg_F (ei_XS_beg I hj))
theorem ei_XS_r (I : ei_XS F c p q a1 a2 a3) {j : Nat} (hj : j < c) : p j + ei_run F (p j) ≤ 256 := ei_run_le I.1 (Nat.le_of_lt (ei_XS_p I hj))
theorem ei_XS_r0 (I : ei_XS F c p q a1 a2 a3) {j : Nat} (hj : j < c) : 0 < ei_run F (p j) := ei_run_pos I.1 (ei_beg_F (ei_XS_beg I hj))
theorem ei_XS_key (I : ei_XS F c p q a1 a2 a3) {j : Nat} (hj : j < c) : ei_key F (q j) = true := I.2.2.2.2.2.2.1 j hj
theorem ei_XS_q (I : ei_XS F c p q a1 a2 a3) {j : Nat} (hj : j < c) : q j < 65792 := (ei_key_lt I.1 (ei_XS_key I hj)).1
theorem ei_XS_at (I : ei_XS F c p q a1 a2 a3) {s : Nat} (hs : ei_beg F s = true) : ∃ i, i < c ∧ p i = s := I.2.2.2.2.1.2.2 s hs
theorem ei_XS_kat (I : ei_XS F c p q a1 a2 a3) {k : Nat} (hs : ei_key F k = true) : ∃ i, i < c ∧ q i = k := I.2.2.2.2.2.2.2 k hs
theorem ei_XS_h1 (I : ei_XS F c p q a1 a2 a3) : ∀ j, j < c → a1 j = nI (p j) ∧ p j < 2 ^ 31 := fun j hj => ⟨I.2.1 j hj, by have := ei_XS_p I hj; omega⟩
theorem ei_XS_h3 (I : ei_XS F c p q a1 a2 a3) : ∀ j, j < c → a3 j = nI (q j) ∧ q j < 2 ^ 31 := fun j hj => ⟨I.2.2.2.1 j hj, by have := ei_XS_q I hj; omega⟩
theorem ei_XS_s1 (I : ei_XS F c p q a1 a2 a3) : ∀ i j, i < j → j < c → p i < p j := I.2.2.2.2.1.1
theorem ei_XS_s3 (I : ei_XS F c p q a1 a2 a3) : ∀ i j, i < j → j < c → q i < q j := I.2.2.2.2.2.1
/-- an array with one more, one less -/
theorem ei_arr_ins {a : Nat → Int32} {b : Nat → Int32} {f : Nat → Nat} {i x : Nat} (h : ∀ j, j < c → a j = nI (f j)) (hi : i ≤ c) (hb : ∀ j, j < c + 1 → b j = ei_ins a i (nI x) j) : ∀ j, j < c + 1 → b j = nI (ei_ins f i x j) := fun j hj => by
  rw [hb j hj]
  rcases Nat.lt_trichotomy j i with k | k | k
  · rw [ei_ins_lt k, ei_ins_lt k]
    exact h j (by omega)
  · rw [k, ei_ins_eq, ei_ins_eq]
  · rw [ei_ins_gt k, ei_ins_gt k]
    exact h (j - 1) (by omega)
theorem ei_arr_del {a : Nat → Int32} {b : Nat → Int32} {f : Nat → Nat} {i : Nat} (h : ∀ j, j < c → a j = nI (f j)) (hi : i < c) (hb : ∀ j, j < c - 1 → b j = ei_del a i j) : ∀ j, j < c - 1 → b j = nI (ei_del f i j) := fun j hj => by
  rw [hb j hj]
  by_cases k : j < i
  · rw [ei_del_lt k, ei_del_lt k]
    exact h j (by omega)
  · rw [ei_del_ge (by omega), ei_del_ge (by omega)]
    exact h (j + 1) (by omega)
/-- X's state with one extent more -/
theorem ei_XS_ins (I : ei_XS F c p q a1 a2 a3) {b w i k : Nat} (R : ei_room F b w) (hi : i ≤ c) (hk : k ≤ c) (hp : ∀ j, j < c → (j < i ↔ p j < b)) (hq : ∀ j, j < c → (j < k ↔ q j < w * 256 + b)) {b1 b2 b3 : Nat → Int32}
    (e1 : ∀ j, j < c + 1 → b1 j = ei_ins a1 i (nI b) j) (e2 : ∀ j, j < c + 1 → b2 j = ei_ins a2 i (nI w) j) (e3 : ∀ j, j < c + 1 → b3 j = ei_ins a3 k (nI (w * 256 + b)) j) :
    ei_XS (ei_set F b w true) (c + 1) (ei_ins p i b) (ei_ins q k (w * 256 + b)) b1 b2 b3 := by
  have hb : b < 256 := by have := R.2.1; have := R.2.2.1; omega
  have hkno : ei_key F (w * 256 + b) = false := ei_nt fun z => by
    have z1 := (ei_key_iff.mp z).1
    have e : (w * 256 + b) % 256 = b := by omega
    rw [e] at z1
    exact ei_tf z1 (ei_beg_no R)
  refine ⟨ei_set_Z I.1 R.2.2.1, ei_arr_ins I.2.1 hi e1, fun j hj => ?_, ei_arr_ins I.2.2.2.1 hk e3, ei_en_ins I.2.2.2.2.1 hi hp (ei_beg_no R) (ei_beg_set R), ei_en_ins I.2.2.2.2.2 hk hq hkno (ei_key_set R)⟩
  rw [e2 j hj]
  rcases Nat.lt_trichotomy j i with g | g | g
  · rw [ei_ins_lt g, ei_ins_lt g, ei_run_set R (ei_XS_beg I (by omega))]
    exact I.2.2.1 j (by omega)
  · rw [g, ei_ins_eq, ei_ins_eq, ei_run_new R]
  · rw [ei_ins_gt g, ei_ins_gt g, ei_run_set R (ei_XS_beg I (by omega))]
    exact I.2.2.1 (j - 1) (by omega)
/-- and with one less -/
theorem ei_XS_del (I : ei_XS F c p q a1 a2 a3) {i k : Nat} (hi : i < c) (hk : k < c) (hq : q k = ei_run F (p i) * 256 + p i) {b1 b2 b3 : Nat → Int32}
    (e1 : ∀ j, j < c - 1 → b1 j = ei_del a1 i j) (e2 : ∀ j, j < c - 1 → b2 j = ei_del a2 i j) (e3 : ∀ j, j < c - 1 → b3 j = ei_del a3 k j) :
    ei_XS (ei_set F (p i) (ei_run F (p i)) false) (c - 1) (ei_del p i) (ei_del q k) b1 b2 b3 := by
  have hb := ei_XS_beg I hi
  refine ⟨ei_set_Z I.1 (ei_XS_r I hi), ei_arr_del I.2.1 hi e1, fun j hj => ?_, ei_arr_del I.2.2.2.1 hk e3, ei_en_del I.2.2.2.2.1 hi (ei_beg_del I.1 hb), ei_en_del I.2.2.2.2.2 hk (fun y => ?_)⟩
  · rw [e2 j hj]
    by_cases g : j < i
    · have := ei_XS_s1 I j i g hi
      rw [ei_del_lt g, ei_del_lt g, ei_run_del I.1 hb (ei_XS_beg I (by omega)) (by omega)]
      exact I.2.2.1 j (by omega)
    · have := ei_XS_s1 I i (j + 1) (by omega) (by omega)
      rw [ei_del_ge (by omega), ei_del_ge (by omega), ei_run_del I.1 hb (ei_XS_beg I (by omega)) (by omega)]
      exact I.2.2.1 (j + 1) (by omega)
  · rw [hq]
    exact ei_key_del I.1 hb y
end
end
section
/-! X's inner walks: the two searches, the shifts, insert, remove, cut -/
section
variable {x c i : Nat} {T : Int32} {a1 a2 a3 : Nat → Int32} {p : Nat → Nat}
theorem ei_firstL {post : Int32 → Prop} (hc : c ≤ 128) (hx : x < 2 ^ 31) (hp : ∀ j, j < c → a1 j = nI (p j) ∧ p j < 2 ^ 31) (hq : ∀ j, j < c → (j < i ↔ p j < x)) (H : post (nI i)) : ∀ n lo hi, lo ≤ i → i ≤ hi → hi ≤ c → hi - lo < n → wX_firstFrom_7 post (nI x) (nI c) T a1 a2 a3 n (nI lo) (nI hi) := by
  intro n
  induction n with
  | zero => intro lo hi _ _ _ h; omega
  | succ n ih =>
    intro lo hi h1 h2 h3 h4
    refine pk_le hi lo (fun h => ?_) (fun h => ?_)
    · have e : lo = i := by omega
      rw [e]
      exact H
    · have hm : (lo + hi) / 2 < hi := by omega
      have hpm := hp ((lo + hi) / 2) (by omega)
      have hqm := hq ((lo + hi) / 2) (by omega)
      have e : a1 (nI ((lo + hi) / 2)).toNatClampNeg = nI (p ((lo + hi) / 2)) := by
        rw [nI_clamp (by omega)]
        exact hpm.1
      have ed : (nI lo + nI hi) / 2 = nI ((lo + hi) / 2) := by
        rw [nI_add]
        exact pk_div (d := 2) (by omega) (by decide) (by decide)
      refine ⟨by decide, nm_r (e' := nI ((lo + hi) / 2)) ed ⟨vp_in_nI (by omega) (by decide), ?_⟩⟩
      exact pk_le x (p ((lo + hi) / 2)) (fun g => ih lo ((lo + hi) / 2) h1 (by omega) (by omega) (by omega)) (fun g => nm_r (nI_1 ((lo + hi) / 2)) (ih ((lo + hi) / 2 + 1) hi (by omega) h2 h3 (by omega))) rfl e hx hpm.2
theorem ei_first {post : Int32 → Prop} {X : Int32} (hX : X = nI x) (hc : c ≤ 128) (hx : x < 2 ^ 31) (hp : ∀ j, j < c → a1 j = nI (p j) ∧ p j < 2 ^ 31) (hi : i ≤ c) (hq : ∀ j, j < c → (j < i ↔ p j < x)) (H : post (nI i)) : wpX_firstFrom post (nI c, T, a1, a2, a3) X := by
  rw [hX]
  exact Exists.intro (c + 1) (ei_firstL hc hx hp hq H (c + 1) 0 c (Nat.zero_le _) hi (Nat.le_refl _) (by omega))
theorem ei_keyL {post : Int32 → Prop} (hc : c ≤ 128) (hx : x < 2 ^ 31) (hp : ∀ j, j < c → a3 j = nI (p j) ∧ p j < 2 ^ 31) (hq : ∀ j, j < c → (j < i ↔ p j < x)) (H : post (nI i)) : ∀ n lo hi, lo ≤ i → i ≤ hi → hi ≤ c → hi - lo < n → wX_keyFrom_7 post (nI x) (nI c) T a1 a2 a3 n (nI lo) (nI hi) := by
  intro n
  induction n with
  | zero => intro lo hi _ _ _ h; omega
  | succ n ih =>
    intro lo hi h1 h2 h3 h4
    refine pk_le hi lo (fun h => ?_) (fun h => ?_)
    · have e : lo = i := by omega
      rw [e]
      exact H
    · have hm : (lo + hi) / 2 < hi := by omega
      have hpm := hp ((lo + hi) / 2) (by omega)
      have hqm := hq ((lo + hi) / 2) (by omega)
      have e : a3 (nI ((lo + hi) / 2)).toNatClampNeg = nI (p ((lo + hi) / 2)) := by
        rw [nI_clamp (by omega)]
        exact hpm.1
      have ed : (nI lo + nI hi) / 2 = nI ((lo + hi) / 2) := by
        rw [nI_add]
        exact pk_div (d := 2) (by omega) (by decide) (by decide)
      refine ⟨by decide, nm_r (e' := nI ((lo + hi) / 2)) ed ⟨vp_in_nI (by omega) (by decide), ?_⟩⟩
      exact pk_le x (p ((lo + hi) / 2)) (fun g => ih lo ((lo + hi) / 2) h1 (by omega) (by omega) (by omega)) (fun g => nm_r (nI_1 ((lo + hi) / 2)) (ih ((lo + hi) / 2 + 1) hi (by omega) h2 h3 (by omega))) rfl e hx hpm.2
theorem ei_keyF {post : Int32 → Prop} {X : Int32} (hX : X = nI x) (hc : c ≤ 128) (hx : x < 2 ^ 31) (hp : ∀ j, j < c → a3 j = nI (p j) ∧ p j < 2 ^ 31) (hi : i ≤ c) (hq : ∀ j, j < c → (j < i ↔ p j < x)) (H : post (nI i)) : wpX_keyFrom post (nI c, T, a1, a2, a3) X := by
  rw [hX]
  exact Exists.intro (c + 1) (ei_keyL hc hx hp hq H (c + 1) 0 c (Nat.zero_le _) hi (Nat.le_refl _) (by omega))
end
/-! the shift to the right: cells j .. c - 1 moved up by one -/
def ei_shR (a : Nat → Int32) (j c : Nat) : Nat → Int32 := fun x => if j < x ∧ x ≤ c then a (x - 1) else a x
theorem ei_shR_step {a : Nat → Int32} {j c : Nat} (h : j + 1 ≤ c) : upd (ei_shR a (j + 1) c) (j + 1) (ei_shR a (j + 1) c j) = ei_shR a j c := by
  funext x
  have e0 : ei_shR a (j + 1) c j = a j := if_neg (by omega)
  rw [e0]
  by_cases hx : x = j + 1
  · rw [hx, pk_us]
    have e1 : ei_shR a j c (j + 1) = a (j + 1 - 1) := if_pos ⟨by omega, h⟩
    rw [e1, Nat.add_sub_cancel]
  · rw [pk_un hx]
    by_cases hy : j < x ∧ x ≤ c
    · have e1 : ei_shR a j c x = a (x - 1) := if_pos hy
      have e2 : ei_shR a (j + 1) c x = a (x - 1) := if_pos ⟨by omega, hy.2⟩
      rw [e1, e2]
    · have e1 : ei_shR a j c x = a x := if_neg hy
      have e2 : ei_shR a (j + 1) c x = a x := if_neg (by omega)
      rw [e1, e2]
theorem ei_shR_full (a : Nat → Int32) (c : Nat) : ei_shR a c c = a := by
  funext x
  exact if_neg (by omega)
theorem ei_shR_ins {a : Nat → Int32} {i c : Nat} {x : Int32} : ∀ j, j < c + 1 → upd (ei_shR a i c) i x j = ei_ins a i x j := fun j hj => by
  rcases Nat.lt_trichotomy j i with k | k | k
  · rw [ei_ins_lt k, pk_un (by omega)]
    exact if_neg (by omega)
  · rw [k, ei_ins_eq, pk_us]
  · rw [ei_ins_gt k, pk_un (by omega)]
    exact if_pos ⟨k, by omega⟩
/-! the shift to the left: cells i + 1 .. j moved down by one -/
def ei_shL (a : Nat → Int32) (i j : Nat) : Nat → Int32 := fun x => if i ≤ x ∧ x < j then a (x + 1) else a x
theorem ei_shL_step {a : Nat → Int32} {i j : Nat} (h : i ≤ j) : upd (ei_shL a i j) j (ei_shL a i j (j + 1)) = ei_shL a i (j + 1) := by
  funext x
  have e0 : ei_shL a i j (j + 1) = a (j + 1) := if_neg (by omega)
  rw [e0]
  by_cases hx : x = j
  · rw [hx, pk_us]
    have e1 : ei_shL a i (j + 1) j = a (j + 1) := if_pos ⟨h, by omega⟩
    rw [e1]
  · rw [pk_un hx]
    by_cases hy : i ≤ x ∧ x < j
    · have e1 : ei_shL a i j x = a (x + 1) := if_pos hy
      have e2 : ei_shL a i (j + 1) x = a (x + 1) := if_pos ⟨hy.1, by omega⟩
      rw [e1, e2]
    · have e1 : ei_shL a i j x = a x := if_neg hy
      have e2 : ei_shL a i (j + 1) x = a x := if_neg (by omega)
      rw [e1, e2]
theorem ei_shL_0 (a : Nat → Int32) (i : Nat) : ei_shL a i i = a := by
  funext x
  exact if_neg (by omega)
theorem ei_shL_del {a : Nat → Int32} {i c : Nat} : ∀ j, j < c - 1 → ei_shL a i (c - 1) j = ei_del a i j := fun j hj => by
  by_cases k : j < i
  · rw [ei_del_lt k]
    exact if_neg (by omega)
  · rw [ei_del_ge (by omega)]
    exact if_pos ⟨by omega, hj⟩
section
variable {c i k b w : Nat} {T : Int32} {a1 a2 a3 : Nat → Int32}
theorem ei_ins75 {post : SX → Prop} (hc : c < 128) (hi : i ≤ c) (hk : k ≤ c) (H : post (nI (c + 1), T + nI w, upd a1 i (nI b), upd a2 i (nI w), upd (ei_shR a3 k c) k (nI (w * 256 + b)))) :
    ∀ m j, k ≤ j → j ≤ c → j - k < m → wX_insert_75 post (nI b) (nI w) (nI i) (nI k) (nI c) T m (nI j) a1 a2 (ei_shR a3 j c) := by
  intro m
  induction m with
  | zero => intro j _ _ h; omega
  | succ m ih =>
    intro j h1 h2 h3
    refine pk_le j k (fun h => ?_) (fun h => ?_)
    · have e : j = k := by omega
      rw [e]
      have hI : vp_in (nI i) 130 := vp_in_nI (by omega) (by decide)
      have hK : vp_in (nI k) 130 := vp_in_nI (by omega) (by decide)
      refine ⟨hI, nm_r (e' := upd a1 i (nI b)) (by rw [nI_clamp (by omega)]) ⟨hI, nm_r (e' := upd a2 i (nI w)) (by rw [nI_clamp (by omega)]) ⟨hK, nm_r (e' := upd (ei_shR a3 k c) k (nI (w * 256 + b))) (by rw [nI_clamp (by omega), ei_key2]) (nm_r (nI_1 c) (nm_e H))⟩⟩⟩
    · obtain ⟨l, rfl⟩ : ∃ l, j = l + 1 := ⟨j - 1, by omega⟩
      have e : upd (ei_shR a3 (l + 1) c) (nI (l + 1)).toNatClampNeg (ei_shR a3 (l + 1) c (nI (l + 1) - 1).toNatClampNeg) = ei_shR a3 l c := by
        rw [nI_pred, nI_clamp (show l + 1 < 2 ^ 31 by omega), nI_clamp (show l < 2 ^ 31 by omega), ei_shR_step h2]
      exact ⟨pk_in l 130 (by omega) (nI_pred l), vp_in_nI (by omega) (by decide), nm_r (e' := ei_shR a3 l c) e (nm_r (pk_m1 l) (ih l (by omega) (by omega) (by omega)))⟩
theorem ei_ins25 {post : SX → Prop} {x1 x2 x4 : Int32} (hc : c < 128) (hi : i ≤ c) (H : ∃ m, wX_insert_75 post x1 x2 (nI i) x4 (nI c) T m (nI c) (ei_shR a1 i c) (ei_shR a2 i c) a3) :
    ∀ m j, i ≤ j → j ≤ c → j - i < m → wX_insert_25 post x1 x2 (nI i) x4 (nI c) T m (nI j) (ei_shR a1 j c) (ei_shR a2 j c) a3 := by
  intro m
  induction m with
  | zero => intro j _ _ h; omega
  | succ m ih =>
    intro j h1 h2 h3
    refine pk_le j i (fun h => ?_) (fun h => ?_)
    · have e : j = i := by omega
      rw [e]
      exact H
    · obtain ⟨l, rfl⟩ : ∃ l, j = l + 1 := ⟨j - 1, by omega⟩
      have e : ∀ a : Nat → Int32, upd (ei_shR a (l + 1) c) (nI (l + 1)).toNatClampNeg (ei_shR a (l + 1) c (nI (l + 1) - 1).toNatClampNeg) = ei_shR a l c := fun a => by
        rw [nI_pred, nI_clamp (show l + 1 < 2 ^ 31 by omega), nI_clamp (show l < 2 ^ 31 by omega), ei_shR_step h2]
      have hp : vp_in (nI (l + 1) - 1) 130 := pk_in l 130 (by omega) (nI_pred l)
      have hl : vp_in (nI (l + 1)) 130 := vp_in_nI (by omega) (by decide)
      exact ⟨hp, hl, nm_r (e' := ei_shR a1 l c) (e a1) ⟨hp, hl, nm_r (e' := ei_shR a2 l c) (e a2) (nm_r (pk_m1 l) (ih l (by omega) (by omega) (by omega)))⟩⟩
theorem ei_insertW {post : SX → Prop} {p q : Nat → Nat} (hc : c < 128) (hb : b < 256) (hw : w ≤ 256) (h1 : ∀ j, j < c → a1 j = nI (p j) ∧ p j < 2 ^ 31) (h3 : ∀ j, j < c → a3 j = nI (q j) ∧ q j < 2 ^ 31)
    (hi : i ≤ c) (hk : k ≤ c) (hp : ∀ j, j < c → (j < i ↔ p j < b)) (hq : ∀ j, j < c → (j < k ↔ q j < w * 256 + b))
    (H : post (nI (c + 1), T + nI w, upd (ei_shR a1 i c) i (nI b), upd (ei_shR a2 i c) i (nI w), upd (ei_shR a3 k c) k (nI (w * 256 + b)))) : wpX_insert post (nI c, T, a1, a2, a3) (nI b) (nI w) := by
  unfold wpX_insert
  dsimp only
  refine ei_first rfl (by omega) (by omega) h1 hi hp ?_
  refine ei_keyF (ei_key2 w b) (by omega) (by omega) h3 hk hq ?_
  have z75 := ei_ins75 (T := T) (a1 := ei_shR a1 i c) (a2 := ei_shR a2 i c) (a3 := a3) hc hi hk H (c + 1) c hk (Nat.le_refl c) (by omega)
  rw [ei_shR_full a3 c] at z75
  have z25 := ei_ins25 (a1 := a1) (a2 := a2) hc hi ⟨_, z75⟩ (c + 1) c hi (Nat.le_refl c) (by omega)
  rw [ei_shR_full a1 c, ei_shR_full a2 c] at z25
  exact ⟨_, z25⟩
theorem ei_rem93 {post : SX → Prop} (hc : c ≤ 128) (hk : k < c) (H : post (nI (c - 1), T, a1, a2, ei_shL a3 k (c - 1))) :
    ∀ m j, k ≤ j → j ≤ c - 1 → c - 1 - j < m → wX_remove_93 post (nI (c - 1)) T m (nI j) a1 a2 (ei_shL a3 k j) := by
  intro m
  induction m with
  | zero => intro j _ _ h; omega
  | succ m ih =>
    intro j h1 h2 h3
    refine pk_le (c - 1) j (fun h => ?_) (fun h => ?_)
    · have e : j = c - 1 := by omega
      rw [e]
      exact H
    · have e : upd (ei_shL a3 k j) (nI j).toNatClampNeg (ei_shL a3 k j (nI j + 1).toNatClampNeg) = ei_shL a3 k (j + 1) := by
        rw [nI_1, nI_clamp (show j < 2 ^ 31 by omega), nI_clamp (show j + 1 < 2 ^ 31 by omega), ei_shL_step h1]
      exact ⟨pk_in (j + 1) 130 (by omega) (nI_1 j), vp_in_nI (by omega) (by decide), nm_r (e' := ei_shL a3 k (j + 1)) e (nm_r (nI_1 j) (ih (j + 1) (by omega) (by omega) (by omega)))⟩
theorem ei_rem49 {post : SX → Prop} {x2 : Int32} (hc : c ≤ 128) (hi : i < c) (H : ∃ m, wX_remove_93 post (nI (c - 1)) T m x2 (ei_shL a1 i (c - 1)) (ei_shL a2 i (c - 1)) a3) :
    ∀ m j, i ≤ j → j ≤ c - 1 → c - 1 - j < m → wX_remove_49 post x2 (nI (c - 1)) T m (nI j) (ei_shL a1 i j) (ei_shL a2 i j) a3 := by
  intro m
  induction m with
  | zero => intro j _ _ h; omega
  | succ m ih =>
    intro j h1 h2 h3
    refine pk_le (c - 1) j (fun h => ?_) (fun h => ?_)
    · have e : j = c - 1 := by omega
      rw [e]
      exact H
    · have e : ∀ a : Nat → Int32, upd (ei_shL a i j) (nI j).toNatClampNeg (ei_shL a i j (nI j + 1).toNatClampNeg) = ei_shL a i (j + 1) := fun a => by
        rw [nI_1, nI_clamp (show j < 2 ^ 31 by omega), nI_clamp (show j + 1 < 2 ^ 31 by omega), ei_shL_step h1]
      have hp : vp_in (nI j + 1) 130 := pk_in (j + 1) 130 (by omega) (nI_1 j)
      have hl : vp_in (nI j) 130 := vp_in_nI (by omega) (by decide)
      exact ⟨hp, hl, nm_r (e' := ei_shL a1 i (j + 1)) (e a1) ⟨hp, hl, nm_r (e' := ei_shL a2 i (j + 1)) (e a2) (nm_r (nI_1 j) (ih (j + 1) (by omega) (by omega) (by omega)))⟩⟩
theorem ei_removeW {post : SX → Prop} {q : Nat → Nat} {t s r : Nat} (hc : c ≤ 128) (hi : i < c) (hk : k < c) (hs : s < 256) (hr : r ≤ 256) (ht : r ≤ t) (e1 : a1 i = nI s) (e2 : a2 i = nI r) (h3 : ∀ j, j < c → a3 j = nI (q j) ∧ q j < 2 ^ 31) (hq : ∀ j, j < c → (j < k ↔ q j < r * 256 + s))
    (H : post (nI (c - 1), nI (t - r), ei_shL a1 i (c - 1), ei_shL a2 i (c - 1), ei_shL a3 k (c - 1))) : wpX_remove post (nI c, nI t, a1, a2, a3) (nI i) := by
  have ec : (nI i).toNatClampNeg = i := nI_clamp (by omega)
  have hI : vp_in (nI i) 130 := vp_in_nI (by omega) (by decide)
  have ek : a2 (nI i).toNatClampNeg * 256 + a1 (nI i).toNatClampNeg = nI (r * 256 + s) := by
    rw [ec, e1, e2, ei_key2]
  have et : nI t - a2 (nI i).toNatClampNeg = nI (t - r) := by
    rw [ec, e2, pk_sub ht]
  have ecc : nI c - 1 = nI (c - 1) := pk_sub (b := 1) (by omega)
  have z93 := ei_rem93 (T := nI (t - r)) (a1 := ei_shL a1 i (c - 1)) (a2 := ei_shL a2 i (c - 1)) (a3 := a3) hc hk H (c + 1) k (Nat.le_refl k) (by omega) (by omega)
  rw [ei_shL_0 a3 k] at z93
  have z49 := ei_rem49 (a1 := a1) (a2 := a2) hc hi ⟨_, z93⟩ (c + 1) i (Nat.le_refl i) (by omega) (by omega)
  rw [ei_shL_0 a1 i, ei_shL_0 a2 i] at z49
  refine And.intro hI (And.intro hI ?_)
  refine ei_keyF ek hc (by omega) h3 (Nat.le_of_lt hk) hq ?_
  exact ⟨hI, nm_r et (nm_r ecc ⟨_, z49⟩)⟩
end
end
section
/-! X's insert, remove, cut, searches, told by the free blocks -/
theorem ei_set_0 (F : Nat → Bool) (a : Nat) (v : Bool) : ei_set F a 0 v = F := by
  funext x
  exact ei_set_out (by omega)
section
variable {F : Nat → Bool} {c : Nat} {p q : Nat → Nat} {a1 a2 a3 : Nat → Int32} {u : SX} {T : Int32}
theorem ei_insert {b w : Nat} (I : ei_RX F u) (R : ei_room F b w) : ∃ u', ei_RX (ei_set F b w true) u' ∧ ∀ post : SX → Prop, post u' → wpX_insert post u (nI b) (nI w) := by
  obtain ⟨c, p, q, a1, a2, a3, rfl, I⟩ := I
  obtain ⟨i, hi, hp⟩ := ei_part b c (ei_XS_s1 I)
  obtain ⟨k, hk, hq⟩ := ei_part (w * 256 + b) c (ei_XS_s3 I)
  have J := ei_XS_ins I R hi hk hp hq (ei_shR_ins (a := a1) (x := nI b)) (ei_shR_ins (a := a2) (x := nI w)) (ei_shR_ins (a := a3) (x := nI (w * 256 + b)))
  have hc : c < 128 := by have := ei_XS_c128 J; omega
  have hw1 := R.2.1
  have hw2 := R.2.2.1
  have et : nI (ei_cnt F 256) + nI w = nI (ei_cnt (ei_set F b w true) 256) := by rw [nI_add, ei_cnt_set256 R]
  refine ⟨_, ⟨c + 1, _, _, _, _, _, rfl, J⟩, fun post H => ?_⟩
  refine ei_insertW hc (by omega) (by omega) (ei_XS_h1 I) (ei_XS_h3 I) hi hk hp hq ?_
  rw [et]
  exact H
theorem ei_ix (E : ∀ i j, i < j → j < c → q i < q j) {k : Nat} (hk : k < c) : ∀ j, j < c → (j < k ↔ q j < q k) := fun j hj => by
  rcases Nat.lt_trichotomy j k with g | g | g
  · have := E j k g hk
    omega
  · rw [g]; omega
  · have := E k j g hj
    omega
theorem ei_firstAt {post : Int32 → Prop} {X : Int32} {i : Nat} (I : ei_XS F c p q a1 a2 a3) (hi : i < c) (hX : X = nI (p i)) (H : post (nI i)) : wpX_firstFrom post (nI c, T, a1, a2, a3) X :=
  ei_first hX (ei_XS_c128 I) (by have := ei_XS_p I hi; omega) (ei_XS_h1 I) (Nat.le_of_lt hi) (ei_ix (ei_XS_s1 I) hi) H
theorem ei_remove {i : Nat} (I : ei_XS F c p q a1 a2 a3) (hi : i < c) : ∃ (q' : Nat → Nat) (b1 b2 b3 : Nat → Int32), ei_XS (ei_set F (p i) (ei_run F (p i)) false) (c - 1) (ei_del p i) q' b1 b2 b3 ∧
    ∀ post : SX → Prop, post (nI (c - 1), nI (ei_cnt (ei_set F (p i) (ei_run F (p i)) false) 256), b1, b2, b3) → wpX_remove post (nI c, nI (ei_cnt F 256), a1, a2, a3) (nI i) := by
  have hb := ei_XS_beg I hi
  obtain ⟨k, hk, ek⟩ := ei_XS_kat I (ei_key_mk I.1 hb)
  have J := ei_XS_del I hi hk ek (ei_shL_del (a := a1)) (ei_shL_del (a := a2)) (ei_shL_del (a := a3))
  have et := ei_cnt_del I.1 hb
  have hr := ei_XS_r I hi
  have hp := ei_XS_p I hi
  have hq := ei_ix (ei_XS_s3 I) hk
  rw [ek] at hq
  refine ⟨_, _, _, _, J, fun post H => ?_⟩
  refine ei_removeW (ei_XS_c128 I) hi hk hp (by omega) (by omega) (I.2.1 i hi) (I.2.2.1 i hi) (ei_XS_h3 I) hq ?_
  have e : ei_cnt F 256 - ei_run F (p i) = ei_cnt (ei_set F (p i) (ei_run F (p i)) false) 256 := by omega
  rw [e]
  exact H
theorem ei_cut40 {G : Nat → Bool} {s n e : Nat} (I : ei_RX G u) (he : s + n ≤ e) (h256 : e ≤ 256) (R : s + n < e → ei_room G (s + n) (e - s - n)) :
    ∃ u', ei_RX (ei_set G (s + n) (e - s - n) true) u' ∧ ∀ post : SX → Prop, post u' → wX_cut_40 post (nI s) (nI n) (nI e) u.1 u.2.1 u.2.2.1 u.2.2.2.1 u.2.2.2.2 := by
  by_cases h : s + n < e
  · obtain ⟨u', hu, H⟩ := ei_insert I (R h)
    refine ⟨u', hu, fun post hp => ?_⟩
    have e1 : nI e - nI s - nI n = nI (e - s - n) := by rw [pk_sub (by omega), pk_sub (by omega)]
    refine br_f ?_ ?_
    · rw [nI_add]
      exact nI_ge h (by omega)
    · rw [nI_add, e1]
      exact H _ hp
  · have e0 : e - s - n = 0 := by omega
    rw [e0, ei_set_0]
    refine ⟨u, I, fun post hp => br_t ?_ hp⟩
    rw [nI_add]
    exact nI_le (by omega) (by omega)
theorem ei_cut {i s n : Nat} (I : ei_XS F c p q a1 a2 a3) (hi : i < c) (h1 : p i ≤ s) (hn : 1 ≤ n) (h2 : s + n ≤ p i + ei_run F (p i)) :
    ∃ u', ei_RX (ei_set F s n false) u' ∧ ∀ post : SX → Prop, post u' → wpX_cut post (nI c, nI (ei_cnt F 256), a1, a2, a3) (nI i) (nI s) (nI n) := by
  have hb := ei_XS_beg I hi
  have hc := ei_XS_c128 I
  have hr := ei_XS_r I hi
  have R1 := ei_room_del I.1 hb
  obtain ⟨q', b1, b2, b3, J, HR⟩ := ei_remove I hi
  have ht : ∀ x, p i ≤ x → x < p i + ei_run F (p i) → F x = true := fun x => ei_run_t I.1
  have hf := ei_run_f I.1 (p i)
  have ec : (nI i).toNatClampNeg = i := nI_clamp (by omega)
  have hI : vp_in (nI i) 130 := vp_in_nI (by omega) (by decide)
  have ex4 : a1 (nI i).toNatClampNeg = nI (p i) := by rw [ec]; exact I.2.1 i hi
  have ex5 : nI (p i) + a2 (nI i).toNatClampNeg = nI (p i + ei_run F (p i)) := by rw [ec, I.2.2.1 i hi, nI_add]
  generalize hR : ei_run F (p i) = r at *
  generalize hS : p i = t at *
  have e3 : ei_set (ei_set (ei_set F t r false) t (s - t) true) (s + n) (t + r - s - n) true = ei_set F s n false := by
    funext x
    by_cases g1 : s + n ≤ x ∧ x < s + n + (t + r - s - n)
    · rw [ei_set_in g1.1 g1.2, ei_set_out (by omega), ht x (by omega) (by omega)]
    · rw [ei_set_out g1]
      by_cases g2 : t ≤ x ∧ x < t + (s - t)
      · rw [ei_set_in g2.1 g2.2, ei_set_out (by omega), ht x (by omega) (by omega)]
      · rw [ei_set_out g2]
        by_cases g3 : s ≤ x ∧ x < s + n
        · rw [ei_set_in g3.1 g3.2, ei_set_in (by omega) (by omega)]
        · rw [ei_set_out g3, ei_set_out (by omega)]
  have main : ∀ u2, ei_RX (ei_set (ei_set F t r false) t (s - t) true) u2 → ∃ u', ei_RX (ei_set F s n false) u' ∧ ∀ post : SX → Prop, post u' → wX_cut_40 post (nI s) (nI n) (nI (t + r)) u2.1 u2.2.1 u2.2.2.1 u2.2.2.2.1 u2.2.2.2.2 := fun u2 h => by
    rw [← e3]
    refine ei_cut40 h h2 hr (fun hlt => ⟨ei_set_Z R1.1 (by omega), by omega, by omega, fun x g1 g2 => ?_, Or.inr ?_, ?_⟩)
    · rw [ei_set_out (by omega), ei_set_in (by omega) (by omega)]
    · rw [ei_set_out (by omega), ei_set_in (by omega) (by omega)]
    · have e : s + n + (t + r - s - n) = t + r := by omega
      rw [e, ei_set_out (by omega), ei_set_out (by omega)]
      exact hf
  by_cases h : s = t
  · have e2 : ei_set (ei_set F t r false) t (s - t) true = ei_set F t r false := by
      rw [h, Nat.sub_self, ei_set_0]
    rw [e2] at main
    obtain ⟨u', hu, H⟩ := main _ ⟨_, _, _, _, _, _, rfl, J⟩
    refine ⟨u', hu, fun post hp => ?_⟩
    refine And.intro hI (nm_r ex4 (And.intro hI (nm_r ex5 ?_)))
    refine HR _ ?_
    exact br_t (nI_le (by omega) (by omega)) (H post hp)
  · obtain ⟨u2, hu2, HI⟩ := ei_insert (b := t) (w := s - t) ⟨_, _, _, _, _, _, rfl, J⟩ ⟨R1.1, by omega, by omega, fun x g1 g2 => ei_set_in (by omega) (by omega), R1.2.2.2.2.1, by rw [ei_set_in (by omega) (by omega)]⟩
    obtain ⟨u', hu, H⟩ := main u2 hu2
    refine ⟨u', hu, fun post hp => ?_⟩
    refine And.intro hI (nm_r ex4 (And.intro hI (nm_r ex5 ?_)))
    refine HR _ ?_
    refine br_f (nI_ge (by omega) (by omega)) ?_
    rw [pk_sub h1]
    refine HI _ ?_
    exact H post hp
theorem ei_ext {post : Int32 → Prop} {b : Nat} (I : ei_XS F c p q a1 a2 a3) (hb : b < 256) (h0 : F b = false → post (-1)) (h1 : ∀ i, i < c → p i ≤ b → b < p i + ei_run F (p i) → post (nI i)) : wpX_extentOf post (nI c, T, a1, a2, a3) (nI b) := by
  unfold wpX_extentOf
  dsimp only
  have hc := ei_XS_c128 I
  obtain ⟨i, hi, hp⟩ := ei_part (b + 1) c (ei_XS_s1 I)
  refine ei_first (nI_1 b) hc (by omega) (ei_XS_h1 I) hi hp ?_
  cases i with
  | zero =>
    refine nm_r (e' := -1) (by decide) (br_t (by decide) (h0 (ei_nt fun z => ?_)))
    obtain ⟨s, g1, g2, g3⟩ := ei_cover I.1 b z
    obtain ⟨j, hj, ej⟩ := ei_XS_at I g2
    have := hp j hj
    omega
  | succ i =>
    have hic : i < c := by omega
    have ec : (nI i).toNatClampNeg = i := nI_clamp (by omega)
    have hI : vp_in (nI i) 130 := vp_in_nI (by omega) (by decide)
    have hr := ei_XS_r I hic
    have es : a1 (nI i).toNatClampNeg + a2 (nI i).toNatClampNeg = nI (p i + ei_run F (p i)) := by
      rw [ec, I.2.1 i hic, I.2.2.1 i hic, nI_add]
    have hpi := (hp i hic).mp (by omega)
    refine nm_r (nI_pred i) (br_f (nI_pos (by omega)) ⟨hI, hI, ?_⟩)
    refine pk_le (p i + ei_run F (p i)) b (fun g => h0 (ei_nt fun z => ?_)) (fun g => h1 i hic (by omega) g) es rfl
    obtain ⟨s, g1, g2, g3⟩ := ei_cover I.1 b z
    obtain ⟨j, hj, ej⟩ := ei_XS_at I g2
    have hj2 := (hp j hj).mpr (by omega)
    by_cases e : j = i
    · rw [e] at ej
      rw [ej] at g
      omega
    · have h3 := ei_XS_s1 I j i (by omega) hic
      have h4 := ei_sep I.1 (s := s) (t := p i) (by omega) (ei_XS_beg I hic)
      omega
end
end
section
/-! Y's inner walks: begins, run, mark, and its counting questions -/
def ei_mk (a : Nat → Int32) (s e : Nat) (w : Int32) : Nat → Int32 := fun x => if s ≤ x ∧ x < e then w else a x
theorem ei_mk_step {a : Nat → Int32} {s b : Nat} {w : Int32} (h : s ≤ b) : upd (ei_mk a s b w) b w = ei_mk a s (b + 1) w := by
  funext x
  by_cases hx : x = b
  · rw [hx, pk_us]
    have e1 : ei_mk a s (b + 1) w b = w := if_pos ⟨h, by omega⟩
    rw [e1]
  · rw [pk_un hx]
    by_cases hy : s ≤ x ∧ x < b
    · have e1 : ei_mk a s b w x = w := if_pos hy
      have e2 : ei_mk a s (b + 1) w x = w := if_pos ⟨hy.1, by omega⟩
      rw [e1, e2]
    · have e1 : ei_mk a s b w x = a x := if_neg hy
      have e2 : ei_mk a s (b + 1) w x = a x := if_neg (by omega)
      rw [e1, e2]
theorem ei_mk_0 (a : Nat → Int32) (s : Nat) (w : Int32) : ei_mk a s s w = a := by
  funext x
  exact if_neg (by omega)
section
variable {F : Nat → Bool} {a : Nat → Int32}
theorem ei_YR_mk1 {s n : Nat} (Y : ei_YR F a) (h : s + n ≤ 256) : ei_YR (ei_set F s n false) (ei_mk a s (s + n) 1) := by
  refine ⟨ei_set_Z Y.1 h, fun b hb => ?_⟩
  by_cases hy : s ≤ b ∧ b < s + n
  · have e1 : ei_mk a s (s + n) 1 b = 1 := if_pos hy
    rw [e1, ei_set_in hy.1 hy.2]
    exact ⟨fun z => absurd z (by decide), fun z => absurd z (by decide)⟩
  · have e1 : ei_mk a s (s + n) 1 b = a b := if_neg hy
    rw [e1, ei_set_out hy]
    exact Y.2 b hb
theorem ei_YR_mk0 {s n : Nat} (Y : ei_YR F a) (h : s + n ≤ 256) : ei_YR (ei_set F s n true) (ei_mk a s (s + n) 0) := by
  refine ⟨ei_set_Z Y.1 h, fun b hb => ?_⟩
  by_cases hy : s ≤ b ∧ b < s + n
  · have e1 : ei_mk a s (s + n) 0 b = 0 := if_pos hy
    rw [e1, ei_set_in hy.1 hy.2]
    exact ⟨fun _ => rfl, fun _ => rfl⟩
  · have e1 : ei_mk a s (s + n) 0 b = a b := if_neg hy
    rw [e1, ei_set_out hy]
    exact Y.2 b hb
theorem ei_ymarkL {post : SY → Prop} {s n : Nat} {w : Int32} (hw : vp_nar .boolean w = w) (h : s + n ≤ 256) (H : post (ei_mk a s (s + n) w)) :
    ∀ m b, s ≤ b → b ≤ s + n → s + n - b < m → wY_mark_3 post (nI s) (nI n) w m (nI b) (ei_mk a s b w) := by
  intro m
  induction m with
  | zero => intro b _ _ h; omega
  | succ m ih =>
    intro b h1 h2 h3
    refine pk_le (s + n) b (fun g => ?_) (fun g => ?_) (nI_add s n) rfl
    · have e : b = s + n := by omega
      rw [e]
      exact H
    · have e : upd (ei_mk a s b w) (nI b).toNatClampNeg (vp_nar .boolean w) = ei_mk a s (b + 1) w := by
        rw [nI_clamp (by omega), hw, ei_mk_step h1]
      exact br_f (nI_pos (by omega)) (br_f (nI_ge (b := 256) (by omega) (by decide)) ⟨vp_in_nI (by omega) (by decide), nm_r (e' := ei_mk a s (b + 1) w) e (nm_r (nI_1 b) (ih (b + 1) (by omega) (by omega) (by omega)))⟩)
theorem ei_ymark {post : SY → Prop} {s n : Nat} {w : Int32} (hw : vp_nar .boolean w = w) (h : s + n ≤ 256) (H : post (ei_mk a s (s + n) w)) : wpY_mark post a (nI s) (nI n) w := by
  have z := ei_ymarkL (a := a) hw h H (n + 1) s (Nat.le_refl s) (by omega) (by omega)
  rw [ei_mk_0 a s w] at z
  exact Exists.intro (n + 1) z
theorem ei_ymark1 {post : SY → Prop} {s n : Nat} (Y : ei_YR F a) (h : s + n ≤ 256) (H : ∀ a', ei_YR (ei_set F s n false) a' → post a') : wpY_mark post a (nI s) (nI n) 1 :=
  ei_ymark rfl h (H _ (ei_YR_mk1 Y h))
theorem ei_ymark0 {post : SY → Prop} {s n : Nat} (Y : ei_YR F a) (h : s + n ≤ 256) (H : ∀ a', ei_YR (ei_set F s n true) a' → post a') : wpY_mark post a (nI s) (nI n) 0 :=
  ei_ymark rfl h (H _ (ei_YR_mk0 Y h))
theorem ei_YR_f {b : Nat} (Y : ei_YR F a) (hb : b < 256) (h : ¬ a b = 0) : F b = false := ei_nt fun z => h ((Y.2 b hb).mpr z)
theorem ei_ybeg {post : Int32 → Prop} {b : Nat} (Y : ei_YR F a) (hb : b < 256) (h1 : ei_beg F b = true → post 1) (h0 : ei_beg F b = false → post 0) : wpY_begins post a (nI b) := by
  unfold wpY_begins
  refine ei_ybB0 hb (br_t rfl ⟨vp_in_nI hb (by decide), ?_⟩)
  rw [nI_clamp (by omega)]
  by_cases z : a b = 0
  · refine br_t z ?_
    have hF := (Y.2 b hb).mp z
    cases b with
    | zero => exact br_t rfl (h1 (ei_beg_iff.mpr ⟨hF, Or.inl rfl⟩))
    | succ b =>
      refine br_f (nI_ne0 (by omega) (by omega)) ⟨pk_in b 256 (by omega) (nI_pred b), ?_⟩
      rw [nI_pred, nI_clamp (by omega)]
      by_cases z2 : a b = 0
      · have hF2 := (Y.2 b (by omega)).mp z2
        exact br_t z2 (h0 (ei_nt fun y => ei_tf hF2 (ei_beg_p y (by omega))))
      · exact br_f z2 (h1 (ei_beg_iff.mpr ⟨hF, Or.inr (ei_YR_f Y (by omega) z2)⟩))
  · exact br_f z (h0 (ei_nt fun y => z ((Y.2 b hb).mpr (ei_beg_F y))))
theorem ei_yrunL {post : Int32 → Prop} {b : Nat} (Y : ei_YR F a) (hb : b ≤ 256) (H : post (nI (ei_run F b))) : ∀ n m, m ≤ ei_run F b → ei_run F b - m < n → wY_run_4 post a n (nI m) (nI (b + m)) := by
  have hle := ei_run_le Y.1 hb
  intro n
  induction n with
  | zero => intro m _ h; omega
  | succ n ih =>
    intro m h1 h2
    refine pk_le 256 (b + m) (fun h => ?_) (fun h => ?_)
    · have e : m = ei_run F b := by omega
      rw [e]
      exact H
    · refine ⟨vp_in_nI h (by decide), ?_⟩
      rw [nI_clamp (by omega)]
      by_cases z : a (b + m) = 0
      · have hF := (Y.2 _ h).mp z
        have hm : m ≠ ei_run F b := fun e => by
          rw [e] at hF
          exact ei_tf hF (ei_run_f Y.1 b)
        refine br_t z (nm_r (nI_1 m) (nm_r (nI_1 (b + m)) ?_))
        exact ih (m + 1) (by omega) (by omega)
      · have hF := ei_YR_f Y h z
        have e : m = ei_run F b := by
          by_cases g : m < ei_run F b
          · exact (ei_tf (ei_run_t Y.1 (b := b) (x := b + m) (by omega) (by omega)) hF).elim
          · omega
        refine br_f z ?_
        rw [e]
        exact H
theorem ei_yrun {post : Int32 → Prop} {b : Nat} (Y : ei_YR F a) (hb : b ≤ 256) (H : post (nI (ei_run F b))) : wpY_run post a (nI b) :=
  Exists.intro (ei_run F b + 1) (ei_yrunL Y hb H (ei_run F b + 1) 0 (Nat.zero_le _) (by omega))
theorem ei_run256 {b : Nat} (Y : ei_YR F a) (hb : b ≤ 256) : ei_run F b ≤ 256 := by
  have := ei_run_le Y.1 hb
  omega
/-! freeBlocks, atLeast, largest, next, sizeAt, bySize -/
theorem ei_yfreeL {post : Int32 → Prop} (Y : ei_YR F a) (H : post (nI (ei_cnt F 256))) : ∀ n b, b ≤ 256 → 256 - b < n → wY_freeBlocks_4 post a n (nI (ei_cnt F b)) (nI b) := by
  intro n
  induction n with
  | zero => intro b _ h; omega
  | succ n ih =>
    intro b h1 h2
    refine pk_le 256 b (fun h => ?_) (fun h => ?_)
    · have e : b = 256 := by omega
      rw [e]
      exact H
    · refine ⟨vp_in_nI h (by decide), ?_⟩
      rw [nI_clamp (by omega)]
      have hi := ih (b + 1) (by omega) (by omega)
      by_cases z : a b = 0
      · rw [ei_cnt_t ((Y.2 _ h).mp z)] at hi
        exact br_t z (nm_r (nI_1 _) (nm_r (nI_1 b) hi))
      · rw [ei_cnt_f (ei_YR_f Y h z)] at hi
        exact br_f z (nm_r (nI_1 b) hi)
theorem ei_yfree {post : Int32 → Prop} (Y : ei_YR F a) (H : post (nI (ei_cnt F 256))) : wpY_freeBlocks post a :=
  Exists.intro 257 (ei_yfreeL Y H 257 0 (by omega) (by omega))
def ei_atP (F : Nat → Bool) (x : Int32) (b : Nat) : Bool := ei_beg F b && !decide (nI (ei_run F b) < x)
theorem ei_atP_f1 {x : Int32} {b : Nat} (h : ei_beg F b = false) : ei_atP F x b = false := by
  unfold ei_atP
  rw [h]
  rfl
theorem ei_atP_f2 {x : Int32} {b : Nat} (h : nI (ei_run F b) < x) : ei_atP F x b = false := by
  unfold ei_atP
  rw [decide_eq_true h, Bool.not_true, Bool.and_false]
theorem ei_atP_t {x : Int32} {b : Nat} (h : ei_beg F b = true) (h2 : ¬ nI (ei_run F b) < x) : ei_atP F x b = true := by
  unfold ei_atP
  rw [decide_eq_false h2, h]
  rfl
theorem ei_yatL {post : Int32 → Prop} {x : Int32} (Y : ei_YR F a) (H : post (nI (ei_cnt (ei_atP F x) 256))) : ∀ n b, b ≤ 256 → 256 - b < n → wY_atLeast_4 post x a n (nI (ei_cnt (ei_atP F x) b)) (nI b) := by
  intro n
  induction n with
  | zero => intro b _ h; omega
  | succ n ih =>
    intro b h1 h2
    refine pk_le 256 b (fun h => ?_) (fun h => ?_)
    · have e : b = 256 := by omega
      rw [e]
      exact H
    · have hi := ih (b + 1) (by omega) (by omega)
      refine ei_ybeg Y h (fun g => ?_) (fun g => ?_)
      · refine br_f (by decide) (ei_yrun Y h1 ?_)
        refine br_c (fun k => ?_) (fun k => ?_)
        · rw [ei_cnt_f (ei_atP_f2 k)] at hi
          exact nm_r (nI_1 b) hi
        · rw [ei_cnt_t (ei_atP_t g k)] at hi
          exact nm_r (nI_1 _) (nm_r (nI_1 b) hi)
      · rw [ei_cnt_f (ei_atP_f1 g)] at hi
        exact br_t rfl (nm_r (nI_1 b) hi)
theorem ei_yat {post : Int32 → Prop} {x : Int32} (Y : ei_YR F a) (H : post (nI (ei_cnt (ei_atP F x) 256))) : wpY_atLeast post a x :=
  Exists.intro 257 (ei_yatL Y H 257 0 (by omega) (by omega))
theorem ei_atP_1 : ei_cnt (ei_atP F 1) 256 = ei_cnt (ei_beg F) 256 ∨ ¬ ei_Z F := by
  by_cases hF : ei_Z F
  · refine Or.inl (ei_cnt_congr 256 fun b hb => ?_)
    cases g : ei_beg F b with
    | false => exact ei_atP_f1 g
    | true =>
      have h1 := ei_run_pos hF (ei_beg_F g)
      have h2 := ei_run_le hF (b := b) (by omega)
      exact ei_atP_t g (nI_nlt (b := 1) h1 (by omega))
  · exact Or.inr hF
theorem ei_yext {post : Int32 → Prop} (Y : ei_YR F a) (H : post (nI (ei_cnt (ei_beg F) 256))) : wpY_extents post a := by
  unfold wpY_extents
  refine ei_yat Y ?_
  rw [ei_atP_1.resolve_right (fun z => z Y.1)]
  exact H
/-- the greatest run -/
def ei_most (F : Nat → Bool) (M : Nat) : Prop := (∀ b, b < 256 → ei_run F b ≤ M) ∧ (M = 0 ∨ ∃ b, b < 256 ∧ ei_run F b = M)
theorem ei_most_u {M N : Nat} (h : ei_most F M) (g : ei_most F N) : M = N := by
  have h1 : M ≤ N := by
    rcases h.2 with z | ⟨b, hb, z⟩
    · omega
    · rw [← z]; exact g.1 b hb
  have h2 : N ≤ M := by
    rcases g.2 with z | ⟨b, hb, z⟩
    · omega
    · rw [← z]; exact h.1 b hb
  omega
theorem ei_ylargeL {post : Int32 → Prop} (Y : ei_YR F a) (H : ∀ M, ei_most F M → post (nI M)) : ∀ n b M, b ≤ 256 → 256 - b < n → (∀ x, x < b → ei_run F x ≤ M) → (M = 0 ∨ ∃ x, x < 256 ∧ ei_run F x = M) → wY_largest_4 post a n (nI M) (nI b) := by
  intro n
  induction n with
  | zero => intro b _ _ h; omega
  | succ n ih =>
    intro b M h1 h2 h3 h4
    refine pk_le 256 b (fun h => ?_) (fun h => ?_)
    · have e : b = 256 := by omega
      rw [e] at h3
      exact H M ⟨h3, h4⟩
    · have hM : M ≤ 256 := by
        rcases h4 with z | ⟨x, hx, z⟩
        · omega
        · rw [← z]; exact ei_run256 Y (by omega)
      have hr := ei_run256 Y h1
      refine ei_yrun Y h1 ?_
      refine pk_le (ei_run F b) M (fun g => ?_) (fun g => ?_)
      · refine nm_r (nI_1 b) (ih (b + 1) M (by omega) (by omega) (fun x hx => ?_) h4)
        by_cases e : x = b
        · rw [e]; exact g
        · exact h3 x (by omega)
      · refine nm_r (nI_1 b) (ih (b + 1) (ei_run F b) (by omega) (by omega) (fun x hx => ?_) (Or.inr ⟨b, h, rfl⟩))
        by_cases e : x = b
        · rw [e]; exact Nat.le_refl _
        · have := h3 x (by omega)
          omega
theorem ei_ylarge {post : Int32 → Prop} (Y : ei_YR F a) (H : ∀ M, ei_most F M → post (nI M)) : wpY_largest post a :=
  Exists.intro 257 (ei_ylargeL Y H 257 0 0 (by omega) (by omega) (fun x hx => absurd hx (Nat.not_lt_zero x)) (Or.inl rfl))
/-- the first begin from a block on -/
theorem ei_ynextL {post : Int32 → Prop} {s : Nat} (Y : ei_YR F a) (h0 : (∀ t, s ≤ t → ei_beg F t = false) → post (-6)) (h1 : ∀ b, s ≤ b → ei_beg F b = true → (∀ t, s ≤ t → t < b → ei_beg F t = false) → post (nI b)) :
    ∀ n b, s ≤ b → b ≤ 256 → 256 - b < n → (∀ t, s ≤ t → t < b → ei_beg F t = false) → wY_next_12 post a n (nI b) := by
  intro n
  induction n with
  | zero => intro b _ _ h; omega
  | succ n ih =>
    intro b g1 g2 g3 g4
    refine pk_le 256 b (fun h => ?_) (fun h => ?_)
    · refine h0 fun t ht => ?_
      by_cases e : t < b
      · exact g4 t ht e
      · exact ei_nt fun z => by
          have := ei_F_lt Y.1 (ei_beg_F z)
          omega
    · refine ei_ybeg Y h (fun k => br_f (by decide) (h1 b g1 k g4)) (fun k => br_t rfl (nm_r (nI_1 b) (ih (b + 1) (by omega) (by omega) (by omega) fun t ht1 ht2 => ?_)))
      by_cases e : t = b
      · rw [e]; exact k
      · exact g4 t ht1 (by omega)
theorem ei_ynext {post : Int32 → Prop} {s : Nat} (Y : ei_YR F a) (hs : s < 256) (h0 : (∀ t, s ≤ t → ei_beg F t = false) → post (-6)) (h1 : ∀ b, s ≤ b → ei_beg F b = true → (∀ t, s ≤ t → t < b → ei_beg F t = false) → post (nI b)) : wpY_next post a (nI s) := by
  unfold wpY_next
  refine ei_ybB0 hs (br_t rfl ?_)
  exact ⟨257, ei_ynextL Y h0 h1 257 s (Nat.le_refl s) (by omega) (by omega) (fun t h1 h2 => absurd h2 (by omega))⟩
/-- the size of the extent around a block -/
theorem ei_ysizeL0 {post : Int32 → Prop} {b : Nat} (Y : ei_YR F a) (hb : b < 256) (hF : F b = false) (H : post 0) : ∀ n k, k ≤ 256 → 256 - k < n → wY_sizeAt_14 post (nI b) a n (nI b) (nI k) := by
  intro n
  induction n with
  | zero => intro k _ h; omega
  | succ n ih =>
    intro k g1 g2
    refine pk_le 256 k (fun h => ?_) (fun h => ?_)
    · refine ei_yrun Y (by omega) ?_
      rw [ei_run_0 Y.1 hF]
      exact H
    · have hi := ih (k + 1) (by omega) (by omega)
      refine br_c (fun _ => nm_r (nI_1 k) hi) (fun _ => ⟨vp_in_nI hb (by decide), ?_⟩)
      have z : ¬ a (nI b).toNatClampNeg = 0 := fun e => by
        rw [nI_clamp (by omega)] at e
        exact ei_tf ((Y.2 b hb).mp e) hF
      exact br_f z (nm_r (nI_1 k) hi)
theorem ei_ysizeL1 {post : Int32 → Prop} {b s : Nat} (Y : ei_YR F a) (hb : b < 256) (hs : ei_beg F s = true) (h1 : s ≤ b) (h2 : b < s + ei_run F s) (H : post (nI (ei_run F s))) : ∀ n k f, k ≤ 256 → 256 - k < n → s ≤ f → f ≤ b → f - s ≤ 256 - k → wY_sizeAt_14 post (nI b) a n (nI f) (nI k) := by
  have hFb : F b = true := ei_run_t Y.1 h1 h2
  intro n
  induction n with
  | zero => intro k _ _ h; omega
  | succ n ih =>
    intro k f g1 g2 g3 g4 g5
    refine pk_le 256 k (fun h => ?_) (fun h => ?_)
    · have e : f = s := by omega
      refine ei_yrun Y (by omega) ?_
      rw [e]
      exact H
    · refine pk_le f 0 (fun z => ?_) (fun z => ⟨vp_in_nI hb (by decide), ?_⟩)
      · exact nm_r (nI_1 k) (ih (k + 1) f (by omega) (by omega) g3 g4 (by omega))
      · have zb : a (nI b).toNatClampNeg = 0 := by
          rw [nI_clamp (by omega)]
          exact (Y.2 b hb).mpr hFb
        obtain ⟨l, rfl⟩ : ∃ l, f = l + 1 := ⟨f - 1, by omega⟩
        refine br_t zb ⟨pk_in l 256 (by omega) (nI_pred l), ?_⟩
        rw [nI_pred, nI_clamp (show l < 2 ^ 31 by omega)]
        by_cases e : s = l + 1
        · have hl : F l = false := by
            have := ei_beg_p hs (by omega)
            rw [e, Nat.add_sub_cancel] at this
            exact this
          have zl : ¬ a l = 0 := fun y => ei_tf ((Y.2 l (by omega)).mp y) hl
          exact br_f zl (nm_r (nI_1 k) (ih (k + 1) (l + 1) (by omega) (by omega) g3 g4 (by omega)))
        · have hl : F l = true := ei_run_t Y.1 (b := s) (by omega) (by omega)
          have zl : a l = 0 := (Y.2 l (by omega)).mpr hl
          exact br_t zl (nm_r (pk_m1 l) (nm_r (nI_1 k) (ih (k + 1) l (by omega) (by omega) (by omega) (by omega) (by omega))))
theorem ei_ysize {post : Int32 → Prop} {b : Nat} (Y : ei_YR F a) (hb : b < 256) (h0 : F b = false → post 0) (h1 : ∀ s, ei_beg F s = true → s ≤ b → b < s + ei_run F s → post (nI (ei_run F s))) : wpY_sizeAt post a (nI b) := by
  unfold wpY_sizeAt
  refine ei_ybB0 hb (br_t rfl ?_)
  cases hF : F b with
  | false => exact ⟨257, ei_ysizeL0 Y hb hF (h0 hF) 257 0 (by omega) (by omega)⟩
  | true =>
    obtain ⟨s, g1, g2, g3⟩ := ei_cover Y.1 b hF
    exact ⟨257, ei_ysizeL1 Y hb g2 g1 g3 (h1 s g2 g1 g3) 257 0 b (by omega) (by omega) g1 (Nat.le_refl b) (by omega)⟩
end
end
section
/-! Y's bySize; the counts by size; Y's take, takeNear, takeAt, give -/
section
variable {F : Nat → Bool} {a : Nat → Int32}
theorem ei_ybyI {post : Int32 → Prop} {J4 : Int32 → Int32 → Prop} {x1 : Int32} {z : Nat} (Y : ei_YR F a) (hz : z ≤ 256) (H1 : ∀ k, ei_key F k = true → nI (ei_cnt (ei_key F) k) = x1 → post (nI (k % 256)))
    (J : (∀ k, k < (z + 1) * 256 → ei_key F k = true → ¬ nI (ei_cnt (ei_key F) k) = x1) → J4 (nI (ei_cnt (ei_key F) ((z + 1) * 256))) (nI (z + 1))) :
    ∀ n b, b ≤ 256 → 256 - b < n → (∀ k, k < z * 256 + b → ei_key F k = true → ¬ nI (ei_cnt (ei_key F) k) = x1) → wY_bySize_14 post J4 x1 (nI z) a n (nI (ei_cnt (ei_key F) (z * 256 + b))) (nI b) := by
  intro n
  induction n with
  | zero => intro b _ h; omega
  | succ n ih =>
    intro b g1 g2 g3
    refine pk_le 256 b (fun h => ?_) (fun h => ?_)
    · have e : z * 256 + b = (z + 1) * 256 := by omega
      rw [e] at g3 ⊢
      exact nm_r (nI_1 z) (J g3)
    · have hi := ih (b + 1) (by omega) (by omega)
      have e0 : z * 256 + (b + 1) = z * 256 + b + 1 := by omega
      have e1 : (z * 256 + b) % 256 = b := by omega
      have e2 : (z * 256 + b) / 256 = z := by omega
      have hk := ei_key_iff (F := F) (k := z * 256 + b)
      rw [e1, e2] at hk
      rw [e0] at hi
      have hr := ei_run256 Y g1
      have hno : ei_key F (z * 256 + b) = false → wY_bySize_14 post J4 x1 (nI z) a n (nI (ei_cnt (ei_key F) (z * 256 + b))) (nI (b + 1)) := fun y => by
        rw [ei_cnt_f y] at hi
        refine hi (fun k hk1 hk2 => ?_)
        by_cases e : k = z * 256 + b
        · rw [e] at hk2
          exact (ei_tf hk2 y).elim
        · exact g3 k (by omega) hk2
      refine ei_ybeg Y h (fun gb => ?_) (fun gb => ?_)
      · refine br_f (by decide) (ei_yrun Y g1 ?_)
        refine pk_eq (ei_run F b) z (fun gr => ?_) (fun gr => ?_)
        · have y := hk.mpr ⟨gb, gr⟩
          refine br_c (fun w => ?_) (fun w => ?_)
          · have := H1 _ y w
            rw [e1] at this
            exact this
          · rw [ei_cnt_t y] at hi
            refine nm_r (nI_1 _) (nm_r (nI_1 b) (hi (fun k hk1 hk2 => ?_)))
            by_cases e : k = z * 256 + b
            · rw [e]; exact w
            · exact g3 k (by omega) hk2
        · exact nm_r (nI_1 b) (hno (ei_nt fun y => gr (hk.mp y).2))
      · exact br_t rfl (nm_r (nI_1 b) (hno (ei_nt fun y => ei_tf (hk.mp y).1 gb)))
theorem ei_ybyO {post : Int32 → Prop} {x1 : Int32} (Y : ei_YR F a) (H1 : ∀ k, ei_key F k = true → nI (ei_cnt (ei_key F) k) = x1 → post (nI (k % 256)))
    (H2 : (∀ k, k < 65792 → ei_key F k = true → ¬ nI (ei_cnt (ei_key F) k) = x1) → post (-6)) :
    ∀ n z, z ≤ 257 → 257 - z < n → (∀ k, k < z * 256 → ei_key F k = true → ¬ nI (ei_cnt (ei_key F) k) = x1) → wY_bySize_4 post x1 a n (nI (ei_cnt (ei_key F) (z * 256))) (nI z) := by
  intro n
  induction n with
  | zero => intro z _ h; omega
  | succ n ih =>
    intro z g1 g2 g3
    refine pk_le 257 z (fun h => ?_) (fun h => ?_)
    · refine H2 (fun k hk => g3 k (by omega))
    · exact ⟨257, ei_ybyI Y (by omega) H1 (fun g => ih (z + 1) (by omega) (by omega) g) 257 0 (by omega) (by omega) g3⟩
theorem ei_yby {post : Int32 → Prop} {x1 : Int32} (Y : ei_YR F a) (H1 : ∀ k, ei_key F k = true → nI (ei_cnt (ei_key F) k) = x1 → post (nI (k % 256)))
    (H2 : (∀ k, k < 65792 → ei_key F k = true → ¬ nI (ei_cnt (ei_key F) k) = x1) → post (-6)) : wpY_bySize post a x1 := by
  have h256 : ∀ k, k < 1 * 256 → ei_key F k = false := fun k hk => ei_nt fun y => by
    have := (ei_key_lt Y.1 y).2
    omega
  have z := ei_ybyO Y H1 H2 258 1 (by omega) (by omega) (fun k hk y => (ei_tf y (h256 k hk)).elim)
  rw [ei_cnt_0 (1 * 256) h256] at z
  exact Exists.intro 258 z
/-! how many extents have at least n blocks -/
def ei_dP (F : Nat → Bool) (n b : Nat) : Bool := ei_beg F b && decide (n ≤ ei_run F b)
def ei_eP (F : Nat → Bool) (n b : Nat) : Bool := ei_beg F b && decide (ei_run F b = n)
theorem ei_dP_iff {n b : Nat} : ei_dP F n b = true ↔ ei_beg F b = true ∧ n ≤ ei_run F b := by
  unfold ei_dP
  rw [Bool.and_eq_true, decide_eq_true_iff]
theorem ei_eP_iff {n b : Nat} : ei_eP F n b = true ↔ ei_beg F b = true ∧ ei_run F b = n := by
  unfold ei_eP
  rw [Bool.and_eq_true, decide_eq_true_iff]
theorem ei_dP_S (n : Nat) : ∀ N, ei_cnt (ei_dP F n) N = ei_cnt (ei_dP F (n + 1)) N + ei_cnt (ei_eP F n) N := by
  intro N
  induction N with
  | zero => rfl
  | succ N ih =>
    cases g : ei_beg F N with
    | false =>
      rw [ei_cnt_f (ei_nt fun z => ei_tf (ei_dP_iff.mp z).1 g), ei_cnt_f (ei_nt fun z => ei_tf (ei_dP_iff.mp z).1 g), ei_cnt_f (ei_nt fun z => ei_tf (ei_eP_iff.mp z).1 g)]
      exact ih
    | true =>
      rcases Nat.lt_trichotomy (ei_run F N) n with h | h | h
      · rw [ei_cnt_f (P := ei_dP F n) (ei_nt fun z => by have := (ei_dP_iff.mp z).2; omega), ei_cnt_f (P := ei_dP F (n + 1)) (ei_nt fun z => by have := (ei_dP_iff.mp z).2; omega), ei_cnt_f (P := ei_eP F n) (ei_nt fun z => by have := (ei_eP_iff.mp z).2; omega)]
        exact ih
      · rw [ei_cnt_t (P := ei_dP F n) (ei_dP_iff.mpr ⟨g, by omega⟩), ei_cnt_f (P := ei_dP F (n + 1)) (ei_nt fun z => by have := (ei_dP_iff.mp z).2; omega), ei_cnt_t (P := ei_eP F n) (ei_eP_iff.mpr ⟨g, h⟩)]
        omega
      · rw [ei_cnt_t (P := ei_dP F n) (ei_dP_iff.mpr ⟨g, by omega⟩), ei_cnt_t (P := ei_dP F (n + 1)) (ei_dP_iff.mpr ⟨g, by omega⟩), ei_cnt_f (P := ei_eP F n) (ei_nt fun z => by have := (ei_eP_iff.mp z).2; omega)]
        omega
theorem ei_key_row (n : Nat) : ∀ b, b ≤ 256 → ei_cnt (ei_key F) (n * 256 + b) = ei_cnt (ei_key F) (n * 256) + ei_cnt (ei_eP F n) b := by
  intro b
  induction b with
  | zero => intro _; rfl
  | succ b ih =>
    intro hb
    have hi := ih (by omega)
    have e1 : (n * 256 + b) % 256 = b := by omega
    have e2 : (n * 256 + b) / 256 = n := by omega
    have hk := ei_key_iff (F := F) (k := n * 256 + b)
    rw [e1, e2] at hk
    have e0 : n * 256 + (b + 1) = n * 256 + b + 1 := by omega
    rw [e0]
    cases g : ei_eP F n b with
    | true =>
      rw [ei_cnt_t (hk.mpr (ei_eP_iff.mp g)), ei_cnt_t g]
      omega
    | false =>
      rw [ei_cnt_f (ei_nt fun z => ei_tf (ei_eP_iff.mpr (hk.mp z)) g), ei_cnt_f g]
      exact hi
theorem ei_dP_cnt : ∀ n, ei_cnt (ei_dP F n) 256 + ei_cnt (ei_key F) (n * 256) = ei_cnt (ei_beg F) 256 := by
  intro n
  induction n with
  | zero =>
    have e : ei_cnt (ei_dP F 0) 256 = ei_cnt (ei_beg F) 256 := ei_cnt_congr 256 fun b _ => by
      cases g : ei_beg F b with
      | true => exact ei_dP_iff.mpr ⟨g, Nat.zero_le _⟩
      | false => exact ei_nt fun z => ei_tf (ei_dP_iff.mp z).1 g
    rw [e]
    rfl
  | succ n ih =>
    have h1 := ei_dP_S (F := F) n 256
    have h2 := ei_key_row (F := F) n 256 (Nat.le_refl _)
    have e : (n + 1) * 256 = n * 256 + 256 := by omega
    rw [e]
    omega
theorem ei_atP_dP (hF : ei_Z F) {n : Nat} (hn : n ≤ 256) : ei_cnt (ei_atP F (nI n)) 256 = ei_cnt (ei_dP F n) 256 := ei_cnt_congr 256 fun b hb => by
  have hr := ei_run_le hF (b := b) (by omega)
  cases g : ei_beg F b with
  | false =>
    rw [ei_atP_f1 g]
    exact (ei_nt fun z => ei_tf (ei_dP_iff.mp z).1 g).symm
  | true =>
    by_cases h : ei_run F b < n
    · rw [ei_atP_f2 (nI_lt h (by omega))]
      exact (ei_nt fun z => by have := (ei_dP_iff.mp z).2; omega).symm
    · rw [ei_atP_t g (nI_nlt (by omega) (by omega))]
      exact (ei_dP_iff.mpr ⟨g, by omega⟩).symm
/-! take -/
def ei_best (F : Nat → Bool) (n b : Nat) : Prop := ei_beg F b = true ∧ n ≤ ei_run F b ∧ ∀ t, ei_beg F t = true → n ≤ ei_run F t → ei_run F b * 256 + b ≤ ei_run F t * 256 + t
theorem ei_best_u {n b t : Nat} (hF : ei_Z F) (h : ei_best F n b) (g : ei_best F n t) : b = t := by
  have h1 := h.2.2 t g.1 g.2.1
  have h2 := g.2.2 b h.1 h.2.1
  have h3 := ei_F_lt hF (ei_beg_F h.1)
  have h4 := ei_F_lt hF (ei_beg_F g.1)
  omega
def ei_tkI (F : Nat → Bool) (n B : Nat) (x2 x3 : Int32) : Prop := (x2 = -1 ∧ x3 = 1000 ∧ ∀ t, t < B → ei_beg F t = true → ei_run F t < n) ∨
  (∃ b, x2 = nI b ∧ x3 = nI (ei_run F b) ∧ b < B ∧ ei_beg F b = true ∧ n ≤ ei_run F b ∧ ∀ t, t < B → ei_beg F t = true → n ≤ ei_run F t → ei_run F b * 256 + b ≤ ei_run F t * 256 + t)
theorem ei_tkI_skip {n B : Nat} {x2 x3 : Int32} (I : ei_tkI F n B x2 x3) (h : ei_beg F B = true → ei_run F B < n) : ei_tkI F n (B + 1) x2 x3 := by
  rcases I with ⟨e1, e2, e3⟩ | ⟨b, e1, e2, e3, e4, e5, e6⟩
  · refine Or.inl ⟨e1, e2, fun t ht hb => ?_⟩
    by_cases e : t = B
    · rw [e] at hb ⊢
      exact h hb
    · exact e3 t (by omega) hb
  · refine Or.inr ⟨b, e1, e2, by omega, e4, e5, fun t ht hb hn => ?_⟩
    by_cases e : t = B
    · rw [e] at hb hn
      have := h hb
      omega
    · exact e6 t (by omega) hb hn
theorem ei_ytakeL {post : Int32 → SY → Prop} {n : Nat} (Y : ei_YR F a) (hn : n ≤ 256) (h0 : (∀ t, ei_beg F t = true → ei_run F t < n) → post (-3) a) (h1 : ∀ b a', ei_best F n b → ei_YR (ei_set F b n false) a' → post (nI b) a') :
    ∀ m B x2 x3, B ≤ 256 → 256 - B < m → ei_tkI F n B x2 x3 → wY_take_20 post (nI n) a m x2 x3 (nI B) := by
  intro m
  induction m with
  | zero => intro B _ _ _ h; omega
  | succ m ih =>
    intro B x2 x3 g1 g2 I
    refine pk_le 256 B (fun h => ?_) (fun h => ?_)
    · have hB : ∀ t, ei_beg F t = true → t < B := fun t ht => by
        have := ei_F_lt Y.1 (ei_beg_F ht)
        omega
      rcases I with ⟨e1, e2, e3⟩ | ⟨b, e1, e2, e3, e4, e5, e6⟩
      · rw [e1]
        exact br_f (by decide) (h0 fun t ht => e3 t (hB t ht) ht)
      · rw [e1]
        have hr := ei_run_le Y.1 (b := b) (by omega)
        exact br_t (nI_pos' (by omega)) (ei_ymark1 Y (by omega) fun a' ha => h1 b a' ⟨e4, e5, fun t ht1 ht2 => e6 t (hB t ht1) ht1 ht2⟩ ha)
    · have hr := ei_run256 Y g1
      refine ei_ybeg Y h (fun gb => ?_) (fun gb => ?_)
      · refine br_f (by decide) (ei_yrun Y g1 ?_)
        refine pk_lt (ei_run F B) n (fun g => ?_) (fun g => ?_)
        · exact nm_r (nI_1 B) (ih (B + 1) x2 x3 (by omega) (by omega) (ei_tkI_skip I fun _ => g))
        · rcases I with ⟨e1, e2, e3⟩ | ⟨b, e1, e2, e3, e4, e5, e6⟩
          · refine br_f ?_ (nm_r (nI_1 B) (ih (B + 1) (nI B) (nI (ei_run F B)) (by omega) (by omega) (Or.inr ⟨B, rfl, rfl, by omega, gb, g, fun t ht hb hn' => ?_⟩)))
            · rw [e2]
              exact nI_ge (b := 1000) (by omega) (by decide)
            · by_cases e : t = B
              · rw [e]; exact Nat.le_refl _
              · have := e3 t (by omega) hb
                omega
          · have hrb := ei_run256 (b := b) Y (by omega)
            rw [e1, e2]
            refine pk_le (ei_run F b) (ei_run F B) (fun k => ?_) (fun k => ?_)
            · refine nm_r (nI_1 B) (ih (B + 1) _ _ (by omega) (by omega) (Or.inr ⟨b, rfl, rfl, by omega, e4, e5, fun t ht hb hn' => ?_⟩))
              by_cases e : t = B
              · rw [e]; omega
              · exact e6 t (by omega) hb hn'
            · refine nm_r (nI_1 B) (ih (B + 1) _ _ (by omega) (by omega) (Or.inr ⟨B, rfl, rfl, by omega, gb, g, fun t ht hb hn' => ?_⟩))
              by_cases e : t = B
              · rw [e]; exact Nat.le_refl _
              · have := e6 t (by omega) hb hn'
                omega
      · exact br_t rfl (nm_r (nI_1 B) (ih (B + 1) x2 x3 (by omega) (by omega) (ei_tkI_skip I fun z => (ei_tf z gb).elim)))
theorem ei_ytake {post : Int32 → SY → Prop} {n : Nat} (Y : ei_YR F a) (hn1 : 1 ≤ n) (hn : n ≤ 256) (h0 : (∀ t, ei_beg F t = true → ei_run F t < n) → post (-3) a) (h1 : ∀ b a', ei_best F n b → ei_YR (ei_set F b n false) a' → post (nI b) a') : wpY_take post a (nI n) := by
  unfold wpY_take
  refine ei_ybS0 hn1 hn (br_t rfl ?_)
  exact ⟨257, ei_ytakeL Y hn h0 h1 257 0 (-1) 1000 (by omega) (by omega) (Or.inl ⟨rfl, rfl, fun t ht => absurd ht (Nat.not_lt_zero t)⟩)⟩
/-! takeNear -/
def ei_aw (b s : Nat) : Nat := (b - s) + (s - b)
def ei_near (F : Nat → Bool) (s n b : Nat) : Prop := ei_beg F b = true ∧ n ≤ ei_run F b ∧ ∀ t, ei_beg F t = true → n ≤ ei_run F t → ei_aw b s < ei_aw t s ∨ (ei_aw b s = ei_aw t s ∧ b ≤ t)
theorem ei_near_u {s n b t : Nat} (h : ei_near F s n b) (g : ei_near F s n t) : b = t := by
  have h1 := h.2.2 t g.1 g.2.1
  have h2 := g.2.2 b h.1 h.2.1
  omega
theorem ei_yaway {post : Int32 → Prop} {b s : Nat} (hb : b < 2 ^ 31) (hs : s < 2 ^ 31) (H : post (nI (ei_aw b s))) : wpY_away post a (nI b) (nI s) := by
  unfold ei_aw at H
  refine pk_le s b (fun h => ?_) (fun h => ?_)
  · rw [pk_sub h]
    have e : b - s + (s - b) = b - s := by omega
    rw [e] at H
    exact H
  · rw [pk_sub (by omega)]
    have e : b - s + (s - b) = s - b := by omega
    rw [e] at H
    exact H
def ei_tnI (F : Nat → Bool) (s n B : Nat) (x3 : Int32) : Prop := (x3 = -1 ∧ ∀ t, t < B → ei_beg F t = true → ei_run F t < n) ∨
  (∃ b, x3 = nI b ∧ b < B ∧ ei_beg F b = true ∧ n ≤ ei_run F b ∧ ∀ t, t < B → ei_beg F t = true → n ≤ ei_run F t → ei_aw b s < ei_aw t s ∨ (ei_aw b s = ei_aw t s ∧ b ≤ t))
theorem ei_tnI_skip {s n B : Nat} {x3 : Int32} (I : ei_tnI F s n B x3) (h : ei_beg F B = true → ei_run F B < n) : ei_tnI F s n (B + 1) x3 := by
  rcases I with ⟨e1, e3⟩ | ⟨b, e1, e3, e4, e5, e6⟩
  · refine Or.inl ⟨e1, fun t ht hb => ?_⟩
    by_cases e : t = B
    · rw [e] at hb ⊢
      exact h hb
    · exact e3 t (by omega) hb
  · refine Or.inr ⟨b, e1, by omega, e4, e5, fun t ht hb hn => ?_⟩
    by_cases e : t = B
    · rw [e] at hb hn
      have := h hb
      omega
    · exact e6 t (by omega) hb hn
theorem ei_aw_lt {b s : Nat} (hb : b ≤ 256) (hs : s < 256) : ei_aw b s < 2 ^ 31 := by
  unfold ei_aw
  omega
theorem ei_ynearL {post : Int32 → SY → Prop} {s n : Nat} (Y : ei_YR F a) (hs : s < 256) (hn : n ≤ 256) (h0 : (∀ t, ei_beg F t = true → ei_run F t < n) → post (-3) a) (h1 : ∀ b a', ei_near F s n b → ei_YR (ei_set F b n false) a' → post (nI b) a') :
    ∀ m B x3, B ≤ 256 → 256 - B < m → ei_tnI F s n B x3 → wY_takeNear_26 post (nI s) (nI n) a m x3 (nI B) := by
  intro m
  induction m with
  | zero => intro B _ _ h; omega
  | succ m ih =>
    intro B x3 g1 g2 I
    refine pk_le 256 B (fun h => ?_) (fun h => ?_)
    · have hB : ∀ t, ei_beg F t = true → t < B := fun t ht => by
        have := ei_F_lt Y.1 (ei_beg_F ht)
        omega
      rcases I with ⟨e1, e3⟩ | ⟨b, e1, e3, e4, e5, e6⟩
      · rw [e1]
        exact br_f (by decide) (h0 fun t ht => e3 t (hB t ht) ht)
      · rw [e1]
        have hr := ei_run_le Y.1 (b := b) (by omega)
        exact br_t (nI_pos' (by omega)) (ei_ymark1 Y (by omega) fun a' ha => h1 b a' ⟨e4, e5, fun t ht1 ht2 => e6 t (hB t ht1) ht1 ht2⟩ ha)
    · have hr := ei_run256 Y g1
      refine ei_ybeg Y h (fun gb => ?_) (fun gb => ?_)
      · refine br_f (by decide) (ei_yrun Y g1 ?_)
        refine pk_lt (ei_run F B) n (fun g => ?_) (fun g => ?_)
        · exact nm_r (nI_1 B) (ih (B + 1) x3 (by omega) (by omega) (ei_tnI_skip I fun _ => g))
        · rcases I with ⟨e1, e3⟩ | ⟨b, e1, e3, e4, e5, e6⟩
          · refine br_t ?_ (nm_r (nI_1 B) (ih (B + 1) (nI B) (by omega) (by omega) (Or.inr ⟨B, rfl, by omega, gb, g, fun t ht hb hn' => ?_⟩)))
            · rw [e1]
              decide
            · by_cases e : t = B
              · rw [e]; exact Or.inr ⟨rfl, Nat.le_refl _⟩
              · have := e3 t (by omega) hb
                omega
          · rw [e1]
            refine br_f (nI_pos (by omega)) ?_
            refine ei_yaway (by omega) (by omega) ?_
            refine ei_yaway (by omega) (by omega) ?_
            refine pk_le (ei_aw b s) (ei_aw B s) (fun k => ?_) (fun k => ?_) rfl rfl (ei_aw_lt (by omega) hs) (ei_aw_lt (by omega) hs)
            · refine nm_r (nI_1 B) (ih (B + 1) _ (by omega) (by omega) (Or.inr ⟨b, rfl, by omega, e4, e5, fun t ht hb hn' => ?_⟩))
              by_cases e : t = B
              · rw [e]; omega
              · exact e6 t (by omega) hb hn'
            · refine nm_r (nI_1 B) (ih (B + 1) _ (by omega) (by omega) (Or.inr ⟨B, rfl, by omega, gb, g, fun t ht hb hn' => ?_⟩))
              by_cases e : t = B
              · rw [e]; exact Or.inr ⟨rfl, Nat.le_refl _⟩
              · have := e6 t (by omega) hb hn'
                omega
      · exact br_t rfl (nm_r (nI_1 B) (ih (B + 1) x3 (by omega) (by omega) (ei_tnI_skip I fun z => (ei_tf z gb).elim)))
theorem ei_ynear {post : Int32 → SY → Prop} {s n : Nat} (Y : ei_YR F a) (hs : s < 256) (hn1 : 1 ≤ n) (hn : n ≤ 256) (h0 : (∀ t, ei_beg F t = true → ei_run F t < n) → post (-3) a) (h1 : ∀ b a', ei_near F s n b → ei_YR (ei_set F b n false) a' → post (nI b) a') : wpY_takeNear post a (nI s) (nI n) := by
  unfold wpY_takeNear
  refine ei_ybB0 hs (br_t rfl ?_)
  refine ei_ybS0 hn1 hn (br_t rfl ?_)
  exact ⟨257, ei_ynearL Y hs hn h0 h1 257 0 (-1) (by omega) (by omega) (Or.inl ⟨rfl, fun t ht => absurd ht (Nat.not_lt_zero t)⟩)⟩
/-! takeAt, give -/
theorem ei_ytakeAt {post : Int32 → SY → Prop} {b n : Nat} (Y : ei_YR F a) (hb : b < 256) (hn : 1 ≤ n) (h : b + n ≤ 256) (h0 : ei_run F b < n → post (-4) a) (h1 : n ≤ ei_run F b → ∀ a', ei_YR (ei_set F b n false) a' → post (nI (ei_cnt (ei_beg (ei_set F b n false)) 256)) a') : wpY_takeAt post a (nI b) (nI n) := by
  unfold wpY_takeAt
  have hr := ei_run256 (b := b) Y (by omega)
  refine ei_yref0 hb hn h (br_t (by decide) ?_)
  refine ei_yrun Y (by omega) ?_
  refine pk_le n (ei_run F b) (fun g => ?_) (fun g => h0 g)
  exact ei_ymark1 Y h fun a' ha => ei_yext ha (h1 g a' ha)
theorem ei_ygiveL {post : Int32 → SY → Prop} {b n : Nat} (Y : ei_YR F a) (hb : b < 256) (hn : 1 ≤ n) (h : b + n ≤ 256) (h0 : (∃ x, b ≤ x ∧ x < b + n ∧ F x = true) → post (-5) a)
    (h1 : (∀ x, b ≤ x → x < b + n → F x = false) → ∀ a' s, ei_YR (ei_set F b n true) a' → ei_beg (ei_set F b n true) s = true → s ≤ b → b < s + ei_run (ei_set F b n true) s → post (nI (ei_run (ei_set F b n true) s)) a') :
    ∀ m x, b ≤ x → x ≤ b + n → b + n - x < m → (∀ y, b ≤ y → y < x → F y = false) → wY_give_16 post (nI b) (nI n) a m (nI x) := by
  intro m
  induction m with
  | zero => intro x _ _ h; omega
  | succ m ih =>
    intro x g1 g2 g3 g4
    refine pk_le (b + n) x (fun g => ?_) (fun g => ⟨vp_in_nI (by omega) (by decide), ?_⟩) (nI_add b n) rfl
    · have e : x = b + n := by omega
      rw [e] at g4
      refine ei_ymark0 Y h fun a' ha => ei_ysize ha hb (fun z => ?_) (fun s k1 k2 k3 => h1 g4 a' s ha k1 k2 k3)
      rw [ei_set_in (Nat.le_refl b) (by omega)] at z
      exact absurd z (by decide)
    · rw [nI_clamp (by omega)]
      by_cases z : a x = 0
      · exact br_t z (h0 ⟨x, g1, g, (Y.2 x (by omega)).mp z⟩)
      · refine br_f z (nm_r (nI_1 x) (ih (x + 1) (by omega) (by omega) (by omega) fun y hy1 hy2 => ?_))
        by_cases e : y = x
        · rw [e]; exact ei_YR_f Y (by omega) z
        · exact g4 y hy1 (by omega)
theorem ei_ygive {post : Int32 → SY → Prop} {b n : Nat} (Y : ei_YR F a) (hb : b < 256) (hn : 1 ≤ n) (h : b + n ≤ 256) (h0 : (∃ x, b ≤ x ∧ x < b + n ∧ F x = true) → post (-5) a)
    (h1 : (∀ x, b ≤ x → x < b + n → F x = false) → ∀ a' s, ei_YR (ei_set F b n true) a' → ei_beg (ei_set F b n true) s = true → s ≤ b → b < s + ei_run (ei_set F b n true) s → post (nI (ei_run (ei_set F b n true) s)) a') : wpY_give post a (nI b) (nI n) := by
  unfold wpY_give
  refine ei_yref0 hb hn h (br_t (by decide) ?_)
  exact ⟨n + 1, ei_ygiveL Y hb hn h h0 h1 (n + 1) b (Nat.le_refl b) (by omega) (by omega) (fun y h1 h2 => absurd h2 (by omega))⟩
end
end
section
/-! X's take, takeNear, takeAt, give -/
section
variable {F : Nat → Bool} {c : Nat} {p q : Nat → Nat} {a1 a2 a3 : Nat → Int32} {u : SX}
theorem ei_RX_c (I : ei_RX F u) : u.1 = nI (ei_cnt (ei_beg F) 256) := by
  obtain ⟨c, p, q, a1, a2, a3, rfl, I⟩ := I
  show nI c = _
  rw [← ei_XS_c I]
theorem ei_xtake {post : Int32 → SX → Prop} {n : Nat} (I : ei_RX F u) (hn1 : 1 ≤ n) (hn : n ≤ 256) (h0 : (∀ t, ei_beg F t = true → ei_run F t < n) → post (-3) u) (h1 : ∀ b u', ei_best F n b → ei_RX (ei_set F b n false) u' → post (nI b) u') : wpX_take post u (nI n) := by
  obtain ⟨c, p, q, a1, a2, a3, rfl, I⟩ := I
  have hc := ei_XS_c128 I
  unfold wpX_take
  dsimp only
  refine ei_xbS0 hn1 hn (br_t rfl ?_)
  obtain ⟨k, hk, hq⟩ := ei_part (n * 256) c (ei_XS_s3 I)
  refine ei_keyF (ei_k256 n) hc (by omega) (ei_XS_h3 I) hk hq ?_
  refine pk_eq k c (fun e => ?_) (fun e => ?_)
  · refine h0 fun t ht => ?_
    obtain ⟨j, hj, ej⟩ := ei_XS_kat I (ei_key_mk I.1 ht)
    have := (hq j hj).mp (by omega)
    omega
  · have hkc : k < c := by omega
    have hge := hq k hkc
    obtain ⟨hb, hr⟩ := ei_key_iff.mp (ei_XS_key I hkc)
    have hql := ei_XS_q I hkc
    have ec : (nI k).toNatClampNeg = k := nI_clamp (by omega)
    have e3 : a3 (nI k).toNatClampNeg - a3 (nI k).toNatClampNeg / 256 * 256 = nI (q k % 256) := by
      rw [ec, I.2.2.2.1 k hkc, ei_rem256 (by omega)]
    obtain ⟨i, hi, ei⟩ := ei_XS_at I hb
    have hbest : ei_best F n (q k % 256) := by
      refine ⟨hb, by omega, fun t ht1 ht2 => ?_⟩
      obtain ⟨j, hj, ej⟩ := ei_XS_kat I (ei_key_mk I.1 ht1)
      have h5 := hq j hj
      have h6 := ei_en_mono I.2.2.2.2.2 (i := k) (j := j) (by omega) hj
      omega
    obtain ⟨⟨y1, y2, y3, y4, y5⟩, hu, HC⟩ := ei_cut (n := n) (s := q k % 256) I hi (by omega) hn1 (by rw [ei]; omega)
    refine ⟨vp_in_nI (by omega) (by decide), by decide, nm_r e3 ?_⟩
    refine ei_firstAt I hi (by rw [ei]) ?_
    exact HC _ (h1 _ _ hbest hu)
/-! takeNear -/
theorem ei_tn143 {post : Int32 → SX → Prop} {n i : Nat} (I : ei_XS F c p q a1 a2 a3) (hi : i < c) (hn1 : 1 ≤ n) (hr : n ≤ ei_run F (p i)) (H : ∀ u', ei_RX (ei_set F (p i) n false) u' → post (nI (p i)) u') : wX_takeNear_143 post (nI n) (nI i) (nI c) (nI (ei_cnt F 256)) a1 a2 a3 := by
  have hc := ei_XS_c128 I
  have e1 : a1 (nI i).toNatClampNeg = nI (p i) := by
    rw [nI_clamp (by omega)]
    exact I.2.1 i hi
  obtain ⟨⟨y1, y2, y3, y4, y5⟩, hu, HC⟩ := ei_cut (n := n) (s := p i) I hi (Nat.le_refl _) hn1 (by omega)
  refine And.intro (vp_in_nI (by omega) (by decide)) (nm_r e1 ?_)
  exact HC _ (H _ hu)
theorem ei_tn76 {post : Int32 → SX → Prop} {s n R L r0 : Nat} (I : ei_XS F c p q a1 a2 a3) (hs : s < 256) (hn1 : 1 ≤ n) (hq : ∀ j, j < c → (j < r0 ↔ p j < s)) (hr0 : r0 ≤ c)
    (hR1 : r0 ≤ R) (hR2 : R ≤ c) (hR3 : ∀ j, r0 ≤ j → j < R → ei_run F (p j) < n) (hR4 : R < c → n ≤ ei_run F (p R))
    (hL1 : L ≤ r0) (hL3 : ∀ j, L ≤ j → j < r0 → ei_run F (p j) < n) (hL4 : 0 < L → n ≤ ei_run F (p (L - 1)))
    (h0 : (∀ t, ei_beg F t = true → ei_run F t < n) → post (-3) (nI c, nI (ei_cnt F 256), a1, a2, a3)) (h1 : ∀ b u', ei_near F s n b → ei_RX (ei_set F b n false) u' → post (nI b) u') :
    wX_takeNear_76 post (nI s) (nI n) (nI R) (ei_m L) (nI c) (nI (ei_cnt F 256)) a1 a2 a3 := by
  have hc := ei_XS_c128 I
  have hj : ∀ t, ei_beg F t = true → n ≤ ei_run F t → ∃ j, j < c ∧ p j = t ∧ (j < L ∨ R ≤ j) := fun t ht1 ht2 => by
    obtain ⟨j, hj, ej⟩ := ei_XS_at I ht1
    rw [← ej] at ht2
    refine ⟨j, hj, ej, ?_⟩
    by_cases k1 : j < L
    · exact Or.inl k1
    · by_cases k2 : R ≤ j
      · exact Or.inr k2
      · by_cases k3 : j < r0
        · have := hL3 j (by omega) k3
          omega
        · have := hR3 j (by omega) (by omega)
          omega
  have hright : R < c → s ≤ p R := fun h => by
    have := hq R h
    omega
  have hmonoR : ∀ j, R ≤ j → j < c → p R ≤ p j := fun j h h' => ei_en_mono I.2.2.2.2.1 h h'
  have nearR : R < c → (∀ t, ei_beg F t = true → n ≤ ei_run F t → t < s → p R + t < s + s) → ei_near F s n (p R) := fun h hfar => by
    refine ⟨ei_XS_beg I h, hR4 h, fun t ht1 ht2 => ?_⟩
    obtain ⟨j, hj1, hj2, hj3⟩ := hj t ht1 ht2
    have hs1 := hright h
    have k1 := hq j hj1
    unfold ei_aw
    by_cases k : t < s
    · have := hfar t ht1 ht2 k
      omega
    · have := hmonoR j (by omega) hj1
      omega
  have nearL : ∀ l, L = l + 1 → (R < c → s + s ≤ p R + p l) → ei_near F s n (p l) := fun l e hfar => by
    have hlc : l < c := by omega
    have hl := hL4 (by omega)
    rw [e, Nat.add_sub_cancel] at hl
    have hls := (hq l hlc).mp (by omega)
    refine ⟨ei_XS_beg I hlc, hl, fun t ht1 ht2 => ?_⟩
    obtain ⟨j, hj1, hj2, hj3⟩ := hj t ht1 ht2
    unfold ei_aw
    rcases hj3 with k | k
    · have := ei_en_mono I.2.2.2.2.1 (i := j) (j := l) (by omega) hlc
      omega
    · have g1 := hmonoR j k hj1
      have g2 := hfar (by omega)
      omega
  cases L with
  | zero =>
    refine br_f ei_m_nneg (pk_eq R c (fun e => ?_) (fun e => ?_))
    · refine h0 fun t ht => Nat.lt_of_not_le fun z => ?_
      obtain ⟨j, hj1, hj2, hj3⟩ := hj t ht z
      omega
    · have hRc : R < c := by omega
      refine br_f (fun z => e ((nI_eq (by omega) (by omega)).mp z)) (br_t ei_m_neg (br_t rfl ?_))
      refine ei_tn143 I hRc hn1 (hR4 hRc) (fun u' hu => h1 _ _ (nearR hRc fun t ht1 ht2 k => ?_) hu)
      obtain ⟨j, hj1, hj2, hj3⟩ := hj t ht1 ht2
      have := hq j hj1
      omega
  | succ l =>
    rw [ei_mS]
    have hlc : l < c := by omega
    have hls := (hq l hlc).mp (by omega)
    have hrl : n ≤ ei_run F (p l) := hL4 (by omega)
    refine br_t (nI_pos' (by omega)) (pk_eq R c (fun e => ?_) (fun e => ?_))
    · refine br_f (by decide) ?_
      exact ei_tn143 I hlc hn1 hrl (fun u' hu => h1 _ _ (nearL l rfl fun z => by omega) hu)
    · have hRc : R < c := by omega
      have hpR := ei_XS_p I hRc
      have hs1 := hright hRc
      have eR : a1 (nI R).toNatClampNeg - nI s = nI (p R - s) := by
        rw [nI_clamp (by omega), I.2.1 R hRc, pk_sub hs1]
      have eL : nI s - a1 (nI l).toNatClampNeg = nI (s - p l) := by
        rw [nI_clamp (by omega), I.2.1 l hlc, pk_sub (by omega)]
      refine br_f (nI_pos (by omega)) ⟨vp_in_nI (by omega) (by decide), vp_in_nI (by omega) (by decide), ?_⟩
      refine pk_lt (p R - s) (s - p l) (fun g => ?_) (fun g => ?_) eR eL
      · refine br_t rfl ?_
        refine ei_tn143 I hRc hn1 (hR4 hRc) (fun u' hu => h1 _ _ (nearR hRc fun t ht1 ht2 k => ?_) hu)
        obtain ⟨j, hj1, hj2, hj3⟩ := hj t ht1 ht2
        have k1 := hq j hj1
        have := ei_en_mono I.2.2.2.2.1 (i := j) (j := l) (by omega) hlc
        omega
      · refine br_f (by decide) ?_
        exact ei_tn143 I hlc hn1 hrl (fun u' hu => h1 _ _ (nearL l rfl fun z => by omega) hu)
theorem ei_tn54 {post : Int32 → SX → Prop} {x1 x3 : Int32} {T : Int32} {n l0 : Nat} (I : ei_XS F c p q a1 a2 a3) (hn : n ≤ 256) (hl0 : l0 ≤ c)
    (K : ∀ L, L ≤ l0 → (∀ j, L ≤ j → j < l0 → ei_run F (p j) < n) → (0 < L → n ≤ ei_run F (p (L - 1))) → wX_takeNear_76 post x1 (nI n) x3 (ei_m L) (nI c) T a1 a2 a3) :
    ∀ m l, l ≤ l0 → l < m → (∀ j, l ≤ j → j < l0 → ei_run F (p j) < n) → wX_takeNear_54 post x1 (nI n) x3 (nI c) T a1 a2 a3 m (ei_m l) := by
  have hc := ei_XS_c128 I
  intro m
  induction m with
  | zero => intro l _ h; omega
  | succ m ih =>
    intro l g1 g2 g3
    cases l with
    | zero => exact br_t ei_m_neg (K 0 (Nat.zero_le _) g3 (fun z => absurd z (Nat.lt_irrefl 0)))
    | succ l =>
      have hlc : l < c := by omega
      have hr := ei_XS_r I hlc
      have e2 : a2 (nI l).toNatClampNeg = nI (ei_run F (p l)) := by
        rw [nI_clamp (by omega)]
        exact I.2.2.1 l hlc
      have hk := K (l + 1) g1 g3
      rw [ei_mS] at hk ⊢
      refine br_f (nI_pos (by omega)) ⟨vp_in_nI (by omega) (by decide), ?_⟩
      refine pk_le n (ei_run F (p l)) (fun g => hk fun _ => g) (fun g => nm_r (ei_m1 l) (ih l (by omega) (by omega) fun j hj1 hj2 => ?_)) rfl e2
      by_cases e : j = l
      · rw [e]; exact g
      · exact g3 j (by omega) hj2
theorem ei_tn30 {post : Int32 → SX → Prop} {x1 x4 : Int32} {T : Int32} {n r0 : Nat} (I : ei_XS F c p q a1 a2 a3) (hn : n ≤ 256)
    (K : ∀ R, r0 ≤ R → R ≤ c → (∀ j, r0 ≤ j → j < R → ei_run F (p j) < n) → (R < c → n ≤ ei_run F (p R)) → ∃ m, wX_takeNear_54 post x1 (nI n) (nI R) (nI c) T a1 a2 a3 m x4) :
    ∀ m r, r0 ≤ r → r ≤ c → c - r < m → (∀ j, r0 ≤ j → j < r → ei_run F (p j) < n) → wX_takeNear_30 post x1 (nI n) x4 (nI c) T a1 a2 a3 m (nI r) := by
  have hc := ei_XS_c128 I
  intro m
  induction m with
  | zero => intro r _ _ h; omega
  | succ m ih =>
    intro r g1 g2 g3 g4
    refine pk_le c r (fun h => K r g1 g2 g4 (fun z => by omega)) (fun h => ⟨vp_in_nI (by omega) (by decide), ?_⟩)
    have hr := ei_XS_r I h
    have e2 : a2 (nI r).toNatClampNeg = nI (ei_run F (p r)) := by
      rw [nI_clamp (by omega)]
      exact I.2.2.1 r h
    refine pk_le n (ei_run F (p r)) (fun g => K r g1 g2 g4 (fun _ => g)) (fun g => nm_r (nI_1 r) (ih (r + 1) (by omega) (by omega) (by omega) fun j hj1 hj2 => ?_)) rfl e2
    by_cases e : j = r
    · rw [e]; exact g
    · exact g4 j hj1 (by omega)
theorem ei_xnear {post : Int32 → SX → Prop} {s n : Nat} (I : ei_RX F u) (hs : s < 256) (hn1 : 1 ≤ n) (hn : n ≤ 256) (h0 : (∀ t, ei_beg F t = true → ei_run F t < n) → post (-3) u) (h1 : ∀ b u', ei_near F s n b → ei_RX (ei_set F b n false) u' → post (nI b) u') : wpX_takeNear post u (nI s) (nI n) := by
  obtain ⟨c, p, q, a1, a2, a3, rfl, I⟩ := I
  have hc := ei_XS_c128 I
  unfold wpX_takeNear
  dsimp only
  refine ei_xbB0 hs (br_t rfl ?_)
  refine ei_xbS0 hn1 hn (br_t rfl ?_)
  obtain ⟨r0, hr0, hq⟩ := ei_part s c (ei_XS_s1 I)
  refine ei_first rfl hc (by omega) (ei_XS_h1 I) hr0 hq ?_
  refine nm_r (e' := ei_m r0) rfl ⟨c + 1, ?_⟩
  refine ei_tn30 (r0 := r0) I hn (fun R hR1 hR2 hR3 hR4 => ⟨c + 1, ?_⟩) (c + 1) r0 (Nat.le_refl _) hr0 (by omega) (fun j k1 k2 => absurd k2 (by omega))
  refine ei_tn54 (l0 := r0) I hn hr0 (fun L hL1 hL3 hL4 => ?_) (c + 1) r0 (Nat.le_refl _) (by omega) (fun j k1 k2 => absurd k2 (by omega))
  exact ei_tn76 I hs hn1 hq hr0 hR1 hR2 hR3 hR4 hL1 hL3 hL4 h0 h1
/-! takeAt -/
theorem ei_xtakeAt {post : Int32 → SX → Prop} {b n : Nat} (I : ei_RX F u) (hb : b < 256) (hn : 1 ≤ n) (h : b + n ≤ 256) (h0 : ei_run F b < n → post (-4) u) (h1 : n ≤ ei_run F b → ∀ u', ei_RX (ei_set F b n false) u' → post u'.1 u') : wpX_takeAt post u (nI b) (nI n) := by
  obtain ⟨c, p, q, a1, a2, a3, rfl, I⟩ := I
  have hc := ei_XS_c128 I
  unfold wpX_takeAt
  dsimp only
  refine ei_xbB0 hb (br_t rfl ?_)
  refine ei_xbeyond0 hb hn h (br_t rfl ?_)
  refine ei_ext I hb (fun z => br_t (by decide) (h0 ?_)) (fun i hi k1 k2 => ?_)
  · rw [ei_run_0 I.1 z]
    omega
  · have hr := ei_XS_r I hi
    have hrin := ei_run_in I.1 k1 k2
    have hI : vp_in (nI i) 130 := vp_in_nI (by omega) (by decide)
    have es : a1 (nI i).toNatClampNeg + a2 (nI i).toNatClampNeg = nI (p i + ei_run F (p i)) := by
      rw [nI_clamp (by omega), I.2.1 i hi, I.2.2.1 i hi, nI_add]
    refine br_f (nI_pos (by omega)) ⟨hI, hI, ?_⟩
    refine pk_le (b + n) (p i + ei_run F (p i)) (fun g => ?_) (fun g => h0 (by omega)) (nI_add b n) es
    obtain ⟨⟨y1, y2, y3, y4, y5⟩, hu, HC⟩ := ei_cut (n := n) (s := b) I hi k1 hn g
    exact HC _ (h1 (by omega) _ hu)
/-! give -/
theorem ei_gv163 {post : Int32 → SX → Prop} {G : Nat → Bool} {s e : Nat} {v : SX} (hse : s ≤ e) (HI : ∀ post : SX → Prop, post v → wpX_insert post u (nI s) (nI (e - s))) (H : post (nI (e - s)) v) : wX_give_163 post (nI s) (nI e) u.1 u.2.1 u.2.2.1 u.2.2.2.1 u.2.2.2.2 := by
  unfold wX_give_163
  rw [pk_sub hse]
  obtain ⟨y1, y2, y3, y4, y5⟩ := v
  exact HI _ H
theorem ei_gv124 {b e l : Nat} (I : ei_XS F c p q a1 a2 a3) (hbe : b < e) (he : e ≤ 256) (hfr : ∀ x, b ≤ x → x < e → F x = false) (hend : F e = false) (hl : l ≤ c) (hq : ∀ j, j < c → (j < l ↔ p j < b)) (hleft : ∀ m, l = m + 1 → p m + ei_run F (p m) ≤ b) :
    ∃ (u' : SX) (s : Nat), ei_RX (ei_set F b (e - b) true) u' ∧ ei_beg (ei_set F b (e - b) true) s = true ∧ s ≤ b ∧ s + ei_run (ei_set F b (e - b) true) s = e ∧
      ∀ post : Int32 → SX → Prop, post (nI (e - s)) u' → wX_give_124 post (nI b) (ei_m l) (nI b) (nI e) (nI c) (nI (ei_cnt F 256)) a1 a2 a3 := by
  have hc := ei_XS_c128 I
  have ebe : b + (e - b) = e := by omega
  -- no join: there is room from b on
  have nojoin : (∀ m, l = m + 1 → p m + ei_run F (p m) ≠ b) → ei_room F b (e - b) := fun hne => by
    refine ⟨I.1, by omega, by omega, fun x g1 g2 => hfr x g1 (by omega), ?_, by rw [ebe]; exact hend⟩
    by_cases e0 : b = 0
    · exact Or.inl e0
    · refine Or.inr (ei_nt fun z => ?_)
      obtain ⟨t, g1, g2, g3⟩ := ei_cover I.1 (b - 1) z
      obtain ⟨j, hj, ej⟩ := ei_XS_at I g2
      have hjl := (hq j hj).mpr (by omega)
      obtain ⟨m, rfl⟩ : ∃ m, l = m + 1 := ⟨l - 1, by omega⟩
      have k1 := hne m rfl
      have k2 := hleft m rfl
      have hmc : m < c := by omega
      have k3 := (hq m hmc).mp (by omega)
      by_cases ee : j = m
      · rw [← ee, ej] at k1 k2
        omega
      · have h3 := ei_XS_s1 I j m (by omega) hmc
        have h4 := ei_sep I.1 (s := t) (t := p m) (by omega) (ei_XS_beg I hmc)
        omega
  have fin : (R : ei_room F b (e - b)) → ∃ (u' : SX), ei_RX (ei_set F b (e - b) true) u' ∧ ei_beg (ei_set F b (e - b) true) b = true ∧ b + ei_run (ei_set F b (e - b) true) b = e ∧
      ∀ post : Int32 → SX → Prop, post (nI (e - b)) u' → wX_give_163 post (nI b) (nI e) (nI c) (nI (ei_cnt F 256)) a1 a2 a3 := fun R => by
    obtain ⟨u', hu, HI⟩ := ei_insert ⟨c, p, q, a1, a2, a3, rfl, I⟩ R
    refine ⟨u', hu, (ei_beg_set R b).mpr (Or.inr rfl), by rw [ei_run_new R]; exact ebe, fun post H => ?_⟩
    exact ei_gv163 (u := (nI c, nI (ei_cnt F 256), a1, a2, a3)) (G := F) (by omega) HI H
  cases l with
  | zero =>
    obtain ⟨u', k1, k2, k3, k4⟩ := fin (nojoin fun m z => absurd z (by omega))
    exact ⟨u', b, k1, k2, Nat.le_refl b, k3, fun post H => br_t ei_m_neg (k4 post H)⟩
  | succ l =>
    have hlc : l < c := by omega
    have hI : vp_in (nI l) 130 := vp_in_nI (by omega) (by decide)
    have hr := ei_XS_r I hlc
    have ec : (nI l).toNatClampNeg = l := nI_clamp (by omega)
    have e1 : a1 (nI l).toNatClampNeg = nI (p l) := by rw [ec]; exact I.2.1 l hlc
    have es : a1 (nI l).toNatClampNeg + a2 (nI l).toNatClampNeg = nI (p l + ei_run F (p l)) := by
      rw [ec, I.2.1 l hlc, I.2.2.1 l hlc, nI_add]
    rw [ei_mS]
    by_cases hj : p l + ei_run F (p l) = b
    · -- joined with the extent before
      have hb := ei_XS_beg I hlc
      have hr0 := ei_XS_r0 I hlc
      have R1 := ei_room_del I.1 hb
      obtain ⟨q', b1, b2, b3, J, HR⟩ := ei_remove I hlc
      have ht : ∀ x, p l ≤ x → x < p l + ei_run F (p l) → F x = true := fun x => ei_run_t I.1
      have hE : ei_set (ei_set F (p l) (ei_run F (p l)) false) (p l) (e - p l) true = ei_set F b (e - b) true := by
        funext x
        by_cases g1 : p l ≤ x ∧ x < p l + (e - p l)
        · rw [ei_set_in g1.1 g1.2]
          by_cases g2 : b ≤ x ∧ x < b + (e - b)
          · rw [ei_set_in g2.1 g2.2]
          · rw [ei_set_out g2, ht x g1.1 (by omega)]
        · rw [ei_set_out g1, ei_set_out (by omega), ei_set_out (by omega)]
      have R : ei_room (ei_set F (p l) (ei_run F (p l)) false) (p l) (e - p l) := by
        refine ⟨R1.1, by omega, by omega, fun x g1 g2 => ?_, R1.2.2.2.2.1, ?_⟩
        · by_cases g3 : x < p l + ei_run F (p l)
          · exact ei_set_in g1 g3
          · rw [ei_set_out (by omega)]
            exact hfr x (by omega) (by omega)
        · have e4 : p l + (e - p l) = e := by omega
          rw [e4, ei_set_out (by omega)]
          exact hend
      obtain ⟨u', hu, HI⟩ := ei_insert ⟨_, _, _, _, _, _, rfl, J⟩ R
      have hbg := (ei_beg_set R (p l)).mpr (Or.inr rfl)
      have hrn := ei_run_new R
      rw [hE] at hu hbg hrn
      refine ⟨u', p l, hu, hbg, by omega, by rw [hrn]; omega, fun post H => ?_⟩
      refine br_f (nI_pos (by omega)) ⟨hI, hI, ?_⟩
      refine pk_eq (p l + ei_run F (p l)) b (fun _ => ⟨hI, nm_r e1 ?_⟩) (fun z => absurd hj z) es rfl
      refine HR _ ?_
      exact ei_gv163 (u := (nI (c - 1), nI (ei_cnt (ei_set F (p l) (ei_run F (p l)) false) 256), b1, b2, b3)) (G := F) (by omega) HI H
    · obtain ⟨u', k1, k2, k3, k4⟩ := fin (nojoin fun m z => by
        have : m = l := by omega
        rw [this]
        exact hj)
      refine ⟨u', b, k1, k2, Nat.le_refl b, k3, fun post H => ?_⟩
      refine br_f (nI_pos (by omega)) ⟨hI, hI, ?_⟩
      exact pk_eq (p l + ei_run F (p l)) b (fun z => absurd z hj) (fun _ => k4 post H) es rfl
end
end
section
/-! X's give; largestExtent; takePieces in lockstep -/
section
variable {F : Nat → Bool} {c : Nat} {p q : Nat → Nat} {a1 a2 a3 : Nat → Int32} {u : SX}
theorem ei_gv81 {b n r : Nat} (I : ei_XS F c p q a1 a2 a3) (hb : b < 256) (hn : 1 ≤ n) (h : b + n ≤ 256) (hr : r ≤ c) (hq : ∀ j, j < c → (j < r ↔ p j < b)) (hright : r < c → b + n ≤ p r) (hleft : ∀ m, r = m + 1 → p m + ei_run F (p m) ≤ b) (hfr : ∀ x, b ≤ x → x < b + n → F x = false) :
    ∃ (u' : SX) (s : Nat), ei_RX (ei_set F b n true) u' ∧ ei_beg (ei_set F b n true) s = true ∧ s ≤ b ∧ b < s + ei_run (ei_set F b n true) s ∧
      ∀ post : Int32 → SX → Prop, post (nI (ei_run (ei_set F b n true) s)) u' → wX_give_81 post (nI b) (nI n) (nI r) (ei_m r) (nI c) (nI (ei_cnt F 256)) a1 a2 a3 := by
  have hc := ei_XS_c128 I
  have en : b + n - b = n := by omega
  -- no join behind
  have nojoin : (r < c → p r ≠ b + n) → ∃ (u' : SX) (s : Nat), ei_RX (ei_set F b n true) u' ∧ ei_beg (ei_set F b n true) s = true ∧ s ≤ b ∧ b < s + ei_run (ei_set F b n true) s ∧
      ∀ post : Int32 → SX → Prop, post (nI (ei_run (ei_set F b n true) s)) u' → wX_give_124 post (nI b) (ei_m r) (nI b) (nI (b + n)) (nI c) (nI (ei_cnt F 256)) a1 a2 a3 := fun hne => by
    have hend : F (b + n) = false := ei_nt fun z => by
      obtain ⟨t, g1, g2, g3⟩ := ei_cover I.1 (b + n) z
      obtain ⟨j, hj, ej⟩ := ei_XS_at I g2
      by_cases k : j < r
      · obtain ⟨m, rfl⟩ : ∃ m, r = m + 1 := ⟨r - 1, by omega⟩
        have k2 := hleft m rfl
        have hmc : m < c := by omega
        by_cases ee : j = m
        · rw [← ee, ej] at k2
          omega
        · have h3 := ei_XS_s1 I j m (by omega) hmc
          have h4 := ei_sep I.1 (s := t) (t := p m) (by omega) (ei_XS_beg I hmc)
          omega
      · have hrc : r < c := by omega
        have k1 := hright hrc
        have k2 := hne hrc
        have k3 := ei_en_mono I.2.2.2.2.1 (i := r) (j := j) (by omega) hj
        omega
    obtain ⟨u', s, h1, h2, h3, h4, h5⟩ := ei_gv124 (e := b + n) I (by omega) h hfr hend hr hq hleft
    rw [en] at h1 h2 h4
    refine ⟨u', s, h1, h2, h3, by omega, fun post H => h5 post ?_⟩
    have e5 : b + n - s = ei_run (ei_set F b n true) s := by omega
    rw [e5]
    exact H
  by_cases hrc : r < c
  · have hI : vp_in (nI r) 130 := vp_in_nI (by omega) (by decide)
    have ec : (nI r).toNatClampNeg = r := nI_clamp (by omega)
    have e1 : a1 (nI r).toNatClampNeg = nI (p r) := by rw [ec]; exact I.2.1 r hrc
    have hpr := ei_XS_p I hrc
    have hrr := ei_XS_r I hrc
    by_cases hj : p r = b + n
    · have hbg := ei_XS_beg I hrc
      have hr0 := ei_XS_r0 I hrc
      obtain ⟨q', b1, b2, b3, J, HR⟩ := ei_remove I hrc
      have ht : ∀ x, p r ≤ x → x < p r + ei_run F (p r) → F x = true := fun x => ei_run_t I.1
      have hf := ei_run_f I.1 (p r)
      have e6 : nI (b + n) + a2 (nI r).toNatClampNeg = nI (p r + ei_run F (p r)) := by rw [ec, I.2.2.1 r hrc, nI_add, hj]
      have hE : ei_set (ei_set F (p r) (ei_run F (p r)) false) b (p r + ei_run F (p r) - b) true = ei_set F b n true := by
        funext x
        by_cases g1 : b ≤ x ∧ x < b + (p r + ei_run F (p r) - b)
        · rw [ei_set_in g1.1 g1.2]
          by_cases g2 : b ≤ x ∧ x < b + n
          · rw [ei_set_in g2.1 g2.2]
          · rw [ei_set_out g2, ht x (by omega) (by omega)]
        · rw [ei_set_out g1, ei_set_out (by omega), ei_set_out (by omega)]
      obtain ⟨u', s, h1, h2, h3, h4, h5⟩ := ei_gv124 (b := b) (e := p r + ei_run F (p r)) (l := r) J (by omega) hrr (fun x g1 g2 => by
          by_cases g3 : p r ≤ x
          · exact ei_set_in g3 g2
          · rw [ei_set_out (by omega)]
            exact hfr x g1 (by omega)) (by rw [ei_set_out (by omega)]; exact hf) (by omega) (fun j hj' => by
          by_cases g : j < r
          · rw [ei_del_lt g]
            exact hq j (by omega)
          · rw [ei_del_ge (by omega)]
            have := hq (j + 1) (by omega)
            omega) (fun m hm => by
          have hmr : m < r := by omega
          have h3 := ei_XS_s1 I m r hmr hrc
          rw [ei_del_lt hmr, ei_run_del I.1 hbg (ei_XS_beg I (by omega)) (by omega)]
          exact hleft m hm)
      rw [hE] at h1 h2 h4
      refine ⟨u', s, h1, h2, h3, by omega, fun post H => ?_⟩
      have e5 : p r + ei_run F (p r) - s = ei_run (ei_set F b n true) s := by omega
      rw [e5] at h5
      refine nm_r (nI_add b n) (br_f (nI_ge hrc (by omega)) ⟨hI, ?_⟩)
      refine pk_eq (p r) (b + n) (fun _ => ⟨hI, nm_r e6 ?_⟩) (fun z => absurd hj z) e1 rfl
      refine HR _ ?_
      exact h5 post H
    · obtain ⟨u', s, h1, h2, h3, h4, h5⟩ := nojoin fun _ => hj
      refine ⟨u', s, h1, h2, h3, h4, fun post H => ?_⟩
      refine nm_r (nI_add b n) (br_f (nI_ge hrc (by omega)) ⟨hI, ?_⟩)
      exact pk_eq (p r) (b + n) (fun z => absurd z hj) (fun _ => h5 post H) e1 rfl
  · obtain ⟨u', s, h1, h2, h3, h4, h5⟩ := nojoin fun z => absurd z hrc
    refine ⟨u', s, h1, h2, h3, h4, fun post H => ?_⟩
    exact nm_r (nI_add b n) (br_t (nI_le (by omega) (by omega)) (h5 post H))
theorem ei_xgive {post : Int32 → SX → Prop} {b n : Nat} (I : ei_RX F u) (hb : b < 256) (hn : 1 ≤ n) (h : b + n ≤ 256) (h0 : (∃ x, b ≤ x ∧ x < b + n ∧ F x = true) → post (-5) u)
    (h1 : (∀ x, b ≤ x → x < b + n → F x = false) → ∀ u' s, ei_RX (ei_set F b n true) u' → ei_beg (ei_set F b n true) s = true → s ≤ b → b < s + ei_run (ei_set F b n true) s → post (nI (ei_run (ei_set F b n true) s)) u') : wpX_give post u (nI b) (nI n) := by
  obtain ⟨c, p, q, a1, a2, a3, rfl, I⟩ := I
  have hc := ei_XS_c128 I
  unfold wpX_give
  dsimp only
  refine ei_xbB0 hb (br_t rfl ?_)
  refine ei_xbeyond0 hb hn h (br_t rfl ?_)
  obtain ⟨r, hr, hq⟩ := ei_part b c (ei_XS_s1 I)
  refine ei_first rfl hc (by omega) (ei_XS_h1 I) hr hq ?_
  refine nm_r (e' := ei_m r) rfl ?_
  -- behind the first question
  have K : (r < c → b + n ≤ p r) → wX_give_54 post (nI b) (nI n) (nI r) (ei_m r) (nI c) (nI (ei_cnt F 256)) a1 a2 a3 := fun hright => by
    have K2 : (∀ m, r = m + 1 → p m + ei_run F (p m) ≤ b) → wX_give_81 post (nI b) (nI n) (nI r) (ei_m r) (nI c) (nI (ei_cnt F 256)) a1 a2 a3 := fun hleft => by
      have hfr : ∀ x, b ≤ x → x < b + n → F x = false := fun x g1 g2 => ei_nt fun z => by
        obtain ⟨t, k1, k2, k3⟩ := ei_cover I.1 x z
        obtain ⟨j, hj, ej⟩ := ei_XS_at I k2
        by_cases k : j < r
        · obtain ⟨m, rfl⟩ : ∃ m, r = m + 1 := ⟨r - 1, by omega⟩
          have k4 := hleft m rfl
          have hmc : m < c := by omega
          have k5 := (hq m hmc).mp (by omega)
          by_cases ee : j = m
          · rw [← ee, ej] at k4
            omega
          · have h3 := ei_XS_s1 I j m (by omega) hmc
            have h4 := ei_sep I.1 (s := t) (t := p m) (by omega) (ei_XS_beg I hmc)
            omega
        · have hrc : r < c := by omega
          have k4 := hright hrc
          have k5 := ei_en_mono I.2.2.2.2.1 (i := r) (j := j) (by omega) hj
          omega
      obtain ⟨u', s, g1, g2, g3, g4, g5⟩ := ei_gv81 I hb hn h hr hq hright hleft hfr
      exact g5 post (h1 hfr u' s g1 g2 g3 g4)
    cases r with
    | zero => exact br_t ei_m_neg (K2 fun m z => absurd z (by omega))
    | succ l =>
      have hlc : l < c := by omega
      have hI : vp_in (nI l) 130 := vp_in_nI (by omega) (by decide)
      have hr' := ei_XS_r I hlc
      have hls := (hq l hlc).mp (by omega)
      have es : a1 (nI l).toNatClampNeg + a2 (nI l).toNatClampNeg = nI (p l + ei_run F (p l)) := by
        rw [nI_clamp (by omega), I.2.1 l hlc, I.2.2.1 l hlc, nI_add]
      rw [ei_mS] at K2 ⊢
      refine br_f (nI_pos (by omega)) ⟨hI, hI, ?_⟩
      refine pk_le (p l + ei_run F (p l)) b (fun g => K2 fun m z => ?_) (fun g => h0 ⟨b, Nat.le_refl b, by omega, ei_run_t I.1 (b := p l) (by omega) g⟩) es rfl
      have e : m = l := by omega
      rw [e]
      exact g
  by_cases hrc : r < c
  · have e1 : a1 (nI r).toNatClampNeg = nI (p r) := by
      rw [nI_clamp (by omega)]
      exact I.2.1 r hrc
    have hpr := ei_XS_p I hrc
    have hge := hq r hrc
    refine br_f (nI_ge hrc (by omega)) ⟨vp_in_nI (by omega) (by decide), ?_⟩
    exact pk_le (b + n) (p r) (fun g => K fun _ => g) (fun g => h0 ⟨p r, by omega, g, ei_beg_F (ei_XS_beg I hrc)⟩) (nI_add b n) e1
  · exact br_t (nI_le (by omega) (by omega)) (K fun z => absurd z hrc)
/-! the largest extent with the smallest place -/
def ei_pick (F : Nat → Bool) (b : Nat) : Prop := ei_beg F b = true ∧ (∀ t, ei_beg F t = true → ei_run F t ≤ ei_run F b) ∧ (∀ t, ei_beg F t = true → ei_run F t = ei_run F b → b ≤ t)
theorem ei_pick_most' {b : Nat} (hF : ei_Z F) (h : ei_beg F b = true) (hm : ∀ t, ei_beg F t = true → ei_run F t ≤ ei_run F b) : ei_most F (ei_run F b) := by
  refine ⟨fun x hx => ?_, Or.inr ⟨b, ei_F_lt hF (ei_beg_F h), rfl⟩⟩
  cases hx : F x with
  | false => rw [ei_run_0 hF hx]; exact Nat.zero_le _
  | true =>
    obtain ⟨s, h1, h2, h3⟩ := ei_cover hF x hx
    have h4 := ei_run_in hF h1 h3
    have h5 := hm s h2
    omega
theorem ei_pick_most {b : Nat} (hF : ei_Z F) (h : ei_pick F b) : ei_most F (ei_run F b) := ei_pick_most' hF h.1 h.2.1
theorem ei_xlarge {T : Int32} (I : ei_XS F c p q a1 a2 a3) (h0 : 0 < c) : ∃ i, i < c ∧ ei_pick F (p i) ∧ ∀ post : Int32 → Prop, post (nI i) → wpX_largestExtent post (nI c, T, a1, a2, a3) := by
  have hc := ei_XS_c128 I
  have hlast : c - 1 < c := by omega
  have hql := ei_XS_q I hlast
  have ecc : nI c - 1 = nI (c - 1) := pk_sub (b := 1) (by omega)
  have ed : a3 (nI c - 1).toNatClampNeg / 256 = nI (q (c - 1) / 256) := by
    rw [ecc, nI_clamp (by omega), I.2.2.2.1 _ hlast, ei_div256 (by omega)]
  obtain ⟨k, hk, hq⟩ := ei_part (q (c - 1) / 256 * 256) c (ei_XS_s3 I)
  have hkc : k < c := by
    have := hq (c - 1) hlast
    omega
  have hge := hq k hkc
  have hle := ei_en_mono I.2.2.2.2.2 (i := k) (j := c - 1) (by omega) hlast
  have hqk := ei_XS_q I hkc
  obtain ⟨hb, hr⟩ := ei_key_iff.mp (ei_XS_key I hkc)
  obtain ⟨i, hi, ei⟩ := ei_XS_at I hb
  have e3 : a3 (nI k).toNatClampNeg - a3 (nI k).toNatClampNeg / 256 * 256 = nI (p i) := by
    rw [nI_clamp (by omega), I.2.2.2.1 k hkc, ei_rem256 (by omega), ei]
  refine ⟨i, hi, ?_, fun post H => ?_⟩
  · rw [ei]
    refine ⟨hb, fun t ht => ?_, fun t ht hrt => ?_⟩
    · obtain ⟨j, hj, ej⟩ := ei_XS_kat I (ei_key_mk I.1 ht)
      have h6 := ei_en_mono I.2.2.2.2.2 (i := j) (j := c - 1) (by omega) hlast
      have h7 := ei_F_lt I.1 (ei_beg_F ht)
      omega
    · obtain ⟨j, hj, ej⟩ := ei_XS_kat I (ei_key_mk I.1 ht)
      have h5 := hq j hj
      have h7 := ei_F_lt I.1 (ei_beg_F ht)
      have h6 := ei_en_mono I.2.2.2.2.2 (i := k) (j := j) (by omega) hj
      omega
  · refine And.intro (pk_in (c - 1) 130 (by omega) ecc) ⟨by decide, nm_r ed ?_⟩
    refine ei_keyF (ei_k256 _) hc (by omega) (ei_XS_h3 I) hk hq ?_
    refine ⟨vp_in_nI (by omega) (by decide), by decide, ?_⟩
    exact ei_firstAt I hi e3 H
end
end
section
/-! takePieces in lockstep -/
theorem ei_cnt_take {F : Nat → Bool} {s g : Nat} (h : s + g ≤ 256) (ht : ∀ x, s ≤ x → x < s + g → F x = true) : ei_cnt F 256 = ei_cnt (ei_set F s g false) 256 + g := by
  have h1 := ei_cnt_set (F := ei_set F s g false) (a := s) (n := g) (fun x g1 g2 => ei_set_in g1 g2) 256
  rw [ei_set_del ht] at h1
  rw [h1]
  by_cases k : 256 ≤ s
  · rw [if_pos k]; omega
  · rw [if_neg k]
    by_cases k2 : 256 ≤ s + g
    · rw [if_pos k2]; omega
    · rw [if_neg k2]
def ei_pcI (F : Nat → Bool) (M l : Nat) (x5 : Int32) : Prop := (x5 = -1 ∧ ∀ t, l ≤ t → ei_beg F t = true → ei_run F t ≠ M) ∨
  (∃ b, x5 = nI b ∧ l ≤ b ∧ ei_beg F b = true ∧ ei_run F b = M ∧ ∀ t, l ≤ t → ei_beg F t = true → ei_run F t = M → b ≤ t)
section
variable {F : Nat → Bool} {a : Nat → Int32}
theorem ei_pcI_skip {M l : Nat} {x5 : Int32} (I : ei_pcI F M (l + 1) x5) (h : ei_beg F l = true → ei_run F l ≠ M) : ei_pcI F M l x5 := by
  rcases I with ⟨e1, e2⟩ | ⟨b, e1, e2, e3, e4, e5⟩
  · refine Or.inl ⟨e1, fun t ht hb => ?_⟩
    by_cases e : t = l
    · rw [e] at hb ⊢
      exact h hb
    · exact e2 t (by omega) hb
  · refine Or.inr ⟨b, e1, by omega, e3, e4, fun t ht hb hr => ?_⟩
    by_cases e : t = l
    · rw [e] at hb hr
      exact absurd hr (h hb)
    · exact e5 t (by omega) hb hr
theorem ei_yp41 {post : Int32 → SY → Prop} {J15 : Int32 → Int32 → (Nat → Int32) → Prop} {x1 x2 x3 : Int32} {M : Nat} (Y : ei_YR F a) (hM : M ≤ 256)
    (K0 : (∀ t, ei_beg F t = true → ei_run F t ≠ M) → J15 x2 (x3 + 1) a)
    (K1 : ∀ b, ei_beg F b = true → ei_run F b = M → (∀ t, ei_beg F t = true → ei_run F t = M → b ≤ t) → ((x1 - x2 ≤ nI M → wY_takePieces_97 post J15 x1 x2 x3 (nI b) (x1 - x2) a) ∧ (¬ x1 - x2 ≤ nI M → wY_takePieces_97 post J15 x1 x2 x3 (nI b) (nI M) a))) :
    ∀ m l x5, l ≤ 256 → l < m → ei_pcI F M l x5 → wY_takePieces_41 post J15 x1 x2 x3 (nI M) a m x5 (ei_m l) := by
  intro m
  induction m with
  | zero => intro l _ _ h; omega
  | succ m ih =>
    intro l x5 g1 g2 I
    cases l with
    | zero =>
      refine br_t ei_m_neg ?_
      rcases I with ⟨e1, e2⟩ | ⟨b, e1, e2, e3, e4, e5⟩
      · rw [e1]
        exact br_t (by decide) (nm_e (K0 fun t => e2 t (Nat.zero_le t)))
      · rw [e1]
        have hb := ei_F_lt Y.1 (ei_beg_F e3)
        exact br_f (nI_pos (by omega)) (K1 b e3 e4 fun t => e5 t (Nat.zero_le t))
    | succ l =>
      rw [ei_mS]
      have hr := ei_run256 (b := l) Y (by omega)
      refine br_f (nI_pos (by omega)) ?_
      refine ei_ybeg Y (by omega) (fun gb => ?_) (fun gb => ?_)
      · refine br_f (by decide) (ei_yrun Y (by omega) ?_)
        refine pk_eq (ei_run F l) M (fun gr => ?_) (fun gr => ?_)
        · refine nm_r (ei_m1 l) (ih l (nI l) (by omega) (by omega) (Or.inr ⟨l, rfl, Nat.le_refl l, gb, gr, fun t ht _ _ => ht⟩))
        · exact nm_r (ei_m1 l) (ih l x5 (by omega) (by omega) (ei_pcI_skip I fun _ => gr))
      · exact br_t rfl (nm_r (ei_m1 l) (ih l x5 (by omega) (by omega) (ei_pcI_skip I fun z => (ei_tf z gb).elim)))
theorem ei_yp15 {post : Int32 → SY → Prop} {J15 : Int32 → Int32 → (Nat → Int32) → Prop} {x1 x2 x3 : Int32} (Y : ei_YR F a)
    (K : ∀ M, ei_most F M → M ≤ 256 → ((∀ t, ei_beg F t = true → ei_run F t ≠ M) → J15 x2 (x3 + 1) a) ∧ (∀ b, ei_beg F b = true → ei_run F b = M → (∀ t, ei_beg F t = true → ei_run F t = M → b ≤ t) → ((x1 - x2 ≤ nI M → wY_takePieces_97 post J15 x1 x2 x3 (nI b) (x1 - x2) a) ∧ (¬ x1 - x2 ≤ nI M → wY_takePieces_97 post J15 x1 x2 x3 (nI b) (nI M) a)))) :
    wpY_largest (fun r_6 => (∃ n41 : Nat, wY_takePieces_41 post J15 x1 x2 x3 r_6 a n41 (-1) 255)) a := by
  refine ei_ylarge Y fun M hM => ?_
  have hM2 : M ≤ 256 := by
    rcases hM.2 with z | ⟨b, hb, z⟩
    · omega
    · rw [← z]; exact ei_run256 Y (by omega)
  obtain ⟨k0, k1⟩ := K M hM hM2
  have z := ei_yp41 Y hM2 k0 k1 257 256 (-1) (by omega) (by omega) (Or.inl ⟨rfl, fun t ht hb => by
    have := ei_F_lt Y.1 (ei_beg_F hb)
    omega⟩)
  rw [ei_mS] at z
  exact ⟨257, z⟩
end
theorem ei_pieces {n : Nat} (hn : n ≤ 256) : ∀ d (F : Nat → Bool) (u : SX) (a : Nat → Int32) (got k : Nat), k + d = 256 → ei_cnt F 256 ≤ d → got ≤ n → ei_RX F u → ei_YR F a →
    ∃ (F' : Nat → Bool) (r : Int32) (u' : SX) (a' : Nat → Int32), ei_RX F' u' ∧ ei_YR F' a' ∧
      (∀ (post : Int32 → SX → Prop) (m : Nat), d < m → post r u' → wX_takePieces_12 post (nI n) m (nI got) u.1 u.2.1 u.2.2.1 u.2.2.2.1 u.2.2.2.2) ∧
      (∀ (post : Int32 → SY → Prop) (m : Nat), d < m → post r a' → wY_takePieces_15 post (nI n) m (nI got) (nI k) a) := by
  intro d
  induction d with
  | zero =>
    intro F u a got k hk hd hg X Y
    obtain ⟨c, p, q, a1, a2, a3, rfl, I⟩ := X
    have hc0 : c = 0 := by
      rcases Nat.eq_zero_or_pos c with z | z
      · exact z
      · have h1 := ei_cnt_pos (P := F) (n := 256) (ei_XS_p I z) (ei_beg_F (ei_XS_beg I z))
        omega
    refine ⟨F, nI got, (nI c, nI (ei_cnt F 256), a1, a2, a3), a, ⟨c, p, q, a1, a2, a3, rfl, I⟩, Y, fun post m hm H => ?_, fun post m hm H => ?_⟩
    · obtain ⟨m, rfl⟩ : ∃ m', m = m' + 1 := ⟨m - 1, by omega⟩
      show wX_takePieces_12 post (nI n) (m + 1) (nI got) (nI c) (nI (ei_cnt F 256)) a1 a2 a3
      exact pk_le n got (fun _ => H) (fun _ => pk_le c 0 (fun _ => H) (fun z => absurd z (by omega)))
    · obtain ⟨m, rfl⟩ : ∃ m', m = m' + 1 := ⟨m - 1, by omega⟩
      exact br_t (nI_le (a := 256) (by omega) (by omega)) H
  | succ d ih =>
    intro F u a got k hk hd hg X Y
    have hk2 : ¬ (256 : Int32) ≤ nI k := nI_ge (b := 256) (by omega) (by decide)
    by_cases hng : n ≤ got
    · refine ⟨F, nI got, u, a, X, Y, fun post m hm H => ?_, fun post m hm H => ?_⟩
      · obtain ⟨m, rfl⟩ : ∃ m', m = m' + 1 := ⟨m - 1, by omega⟩
        exact br_t (nI_le hng (by omega)) H
      · obtain ⟨m, rfl⟩ : ∃ m', m = m' + 1 := ⟨m - 1, by omega⟩
        exact br_f hk2 (br_t (nI_le hng (by omega)) H)
    · have hng2 : ¬ nI n ≤ nI got := nI_ge (by omega) (by omega)
      obtain ⟨c, p, q, a1, a2, a3, rfl, I⟩ := X
      have hc := ei_XS_c128 I
      by_cases hc0 : c = 0
      · have hno : ∀ t, ei_beg F t = false := fun t => ei_nt fun z => by
          obtain ⟨j, hj, _⟩ := ei_XS_at I z
          omega
        have hcnt : ei_cnt F 256 = 0 := ei_cnt_0 256 fun x _ => ei_nt fun z => by
          obtain ⟨s, _, h2, _⟩ := ei_cover I.1 x z
          exact ei_tf h2 (hno s)
        obtain ⟨F', r, u', a', h1, h2, h3, h4⟩ := ih F (nI c, nI (ei_cnt F 256), a1, a2, a3) a got (k + 1) (by omega) (by omega) hg ⟨c, p, q, a1, a2, a3, rfl, I⟩ Y
        refine ⟨F', r, u', a', h1, h2, fun post m hm H => h3 post m (by omega) H, fun post m hm H => ?_⟩
        obtain ⟨m, rfl⟩ : ∃ m', m = m' + 1 := ⟨m - 1, by omega⟩
        refine br_f hk2 (br_f hng2 ?_)
        refine ei_yp15 Y (fun M hM hM2 => ⟨fun _ => ?_, fun b hb _ _ => (ei_tf hb (hno b)).elim⟩)
        rw [nI_1]
        exact h4 post m (by omega) H
      · obtain ⟨i, hi, hpk, HL⟩ := ei_xlarge (T := nI (ei_cnt F 256)) I (by omega)
        have hr := ei_XS_r I hi
        have hr0 := ei_XS_r0 I hi
        have hI : vp_in (nI i) 130 := vp_in_nI (by omega) (by decide)
        have ec : (nI i).toNatClampNeg = i := nI_clamp (by omega)
        have e1 : a1 (nI i).toNatClampNeg = nI (p i) := by rw [ec]; exact I.2.1 i hi
        have e2 : a2 (nI i).toNatClampNeg = nI (ei_run F (p i)) := by rw [ec]; exact I.2.2.1 i hi
        have es : nI n - nI got = nI (n - got) := pk_sub hg
        obtain ⟨g, hg0, hg1⟩ : ∃ g, (n - got ≤ ei_run F (p i) → g = n - got) ∧ (ei_run F (p i) < n - got → g = ei_run F (p i)) := by
          by_cases k1 : n - got ≤ ei_run F (p i)
          · exact ⟨n - got, fun _ => rfl, fun z => absurd z (by omega)⟩
          · exact ⟨ei_run F (p i), fun z => absurd z k1, fun _ => rfl⟩
        have g1 : 1 ≤ g := by
          by_cases k1 : n - got ≤ ei_run F (p i)
          · rw [hg0 k1]; omega
          · rw [hg1 (by omega)]; omega
        have g2 : g ≤ ei_run F (p i) := by
          by_cases k1 : n - got ≤ ei_run F (p i)
          · rw [hg0 k1]; omega
          · rw [hg1 (by omega)]; omega
        have g3 : got + g ≤ n := by
          by_cases k1 : n - got ≤ ei_run F (p i)
          · rw [hg0 k1]; omega
          · rw [hg1 (by omega)]; omega
        obtain ⟨⟨y1, y2, y3, y4, y5⟩, hu1, HC⟩ := ei_cut (n := g) (s := p i) I hi (Nat.le_refl _) g1 (by omega)
        have Y1 := ei_YR_mk1 (s := p i) (n := g) Y (by omega)
        have ect := ei_cnt_take (F := F) (s := p i) (g := g) (by omega) (fun x h1 h2 => ei_run_t I.1 h1 (by omega))
        obtain ⟨F', r, u', a', h1, h2, h3, h4⟩ := ih _ _ _ (got + g) (k + 1) (by omega) (by omega) g3 hu1 Y1
        refine ⟨F', r, u', a', h1, h2, fun post m hm H => ?_, fun post m hm H => ?_⟩
        · obtain ⟨m, rfl⟩ : ∃ m', m = m' + 1 := ⟨m - 1, by omega⟩
          have h53 : wX_takePieces_53 post (wX_takePieces_12 post (nI n) m) (nI n) (nI got) (nI i) (nI g) (nI c) (nI (ei_cnt F 256)) a1 a2 a3 := by
            refine And.intro hI ?_
            rw [e1]
            refine HC _ ?_
            exact nm_r (nI_add got g) (h3 post m (by omega) H)
          show wX_takePieces_12 post (nI n) (m + 1) (nI got) (nI c) (nI (ei_cnt F 256)) a1 a2 a3
          refine br_f hng2 (br_f (nI_nle (by omega) (by omega)) (HL _ ⟨hI, ?_⟩))
          refine pk_le (n - got) (ei_run F (p i)) (fun k1 => ?_) (fun k1 => ⟨hI, ?_⟩) es e2
          · rw [es, ← hg0 k1]
            exact h53
          · rw [e2, ← hg1 k1]
            exact h53
        · obtain ⟨m, rfl⟩ : ∃ m', m = m' + 1 := ⟨m - 1, by omega⟩
          have h97 : wY_takePieces_97 post (wY_takePieces_15 post (nI n) m) (nI n) (nI got) (nI k) (nI (p i)) (nI g) a := by
            unfold wY_takePieces_97
            refine ei_ymark rfl (by omega) ?_
            exact nm_r (nI_add got g) (nm_r (nI_1 k) (h4 post m (by omega) H))
          refine br_f hk2 (br_f hng2 ?_)
          refine ei_yp15 Y (fun M hM hM2 => ?_)
          have eM : ei_run F (p i) = M := ei_most_u (ei_pick_most I.1 hpk) hM
          refine ⟨fun hno => absurd eM (hno _ hpk.1), fun b hb hbr hbm => ?_⟩
          have k1 := hbm _ hpk.1 eM
          have k2 := hpk.2.2 b hb (by omega)
          have eb : b = p i := by omega
          rw [eb]
          refine pk_le (n - got) M (fun k1 => ?_) (fun k1 => ?_) es rfl
          · rw [es, ← hg0 (by omega)]
            exact h97
          · rw [← eM, ← hg1 (by omega)]
            exact h97
end
section
/-! what is owed -/
def ei_full : Nat → Bool := ei_set (fun _ => false) 0 256 true
theorem ei_full_of {F : Nat → Bool} (hF : ei_Z F) : ei_set F 0 256 true = ei_full := by
  funext x
  unfold ei_full
  by_cases h : 0 ≤ x ∧ x < 0 + 256
  · rw [ei_set_in h.1 h.2, ei_set_in h.1 h.2]
  · rw [ei_set_out h, ei_set_out h]
    exact hF x (by omega)
theorem ei_xclear {post : SX → Prop} (u : SX) (H : ∀ u', ei_RX ei_full u' → post u') : wpX_clear post u := by
  obtain ⟨x1, x2, a1, a2, a3⟩ := u
  have X : ei_RX (fun _ => false) (0, 0, a1, a2, a3) := by
    refine ⟨0, fun _ => 0, fun _ => 0, a1, a2, a3, ?_, fun _ _ => rfl, lt_0, lt_0, lt_0, ?_, ?_⟩
    · rw [ei_cnt_0 256 (fun _ _ => rfl)]
      rfl
    · exact ⟨fun i j _ h => absurd h (Nat.not_lt_zero j), lt_0, fun x hx => (ei_tf (ei_beg_F hx) rfl).elim⟩
    · exact ⟨fun i j _ h => absurd h (Nat.not_lt_zero j), lt_0, fun x hx => (ei_tf (ei_beg_F (ei_key_iff.mp hx).1) rfl).elim⟩
  have R : ei_room (fun _ => false) 0 256 := ⟨fun _ _ => rfl, by omega, by omega, fun _ _ _ => rfl, Or.inl rfl, rfl⟩
  obtain ⟨⟨y1, y2, y3, y4, y5⟩, hu, HI⟩ := ei_insert X R
  unfold wpX_clear
  dsimp only
  exact HI _ (H _ hu)
def i_Rel (k : Nat) (u : SX) (v : SY) : Prop := ∃ F : Nat → Bool, ei_YR F v ∧ ei_RX F u
theorem i_up {k : Nat} {u : SX} {v : SY} (h : i_Rel k u v) : i_Rel (k + 3) u v := h
theorem i_vc0 : wpX_init (fun u => wpY_init (fun v => i_Rel 0 u v)) := by
  unfold wpX_init
  refine ei_xclear _ (fun u' hu => ?_)
  obtain ⟨y1, y2, y3, y4, y5⟩ := u'
  refine ⟨ei_full, ⟨ei_set_Z (fun _ _ => rfl) (by omega), fun b hb => ⟨fun _ => ei_set_in (Nat.zero_le b) (by omega), fun _ => rfl⟩⟩, hu⟩
theorem i_vc_take {k : Nat} {u : SX} {v : SY} (I : i_Rel k u v) (hk : k + 3 ≤ 1536) (v1 : Int32) : wpX_take (fun r u' => wpY_take (fun r' v' => r' = r ∧ i_Rel (k + 3) u' v') v v1) u v1 := by
  obtain ⟨F, Y, X⟩ := I
  rcases ei_siz v1 with h | ⟨n, h1, h2, rfl⟩
  · obtain ⟨y1, y2, y3, y4, y5⟩ := u
    unfold wpX_take
    dsimp only
    refine ei_xbS1 h (br_f (by decide) ?_)
    unfold wpY_take
    exact ei_ybS1 h (br_f (by decide) ⟨rfl, F, Y, X⟩)
  · refine ei_xtake X h1 h2 (fun g => ?_) (fun b u' g X' => ?_)
    · refine ei_ytake Y h1 h2 (fun _ => ⟨rfl, F, Y, X⟩) (fun b a' k1 k2 => ?_)
      have k3 := g b k1.1
      have k4 := k1.2.1
      omega
    · refine ei_ytake Y h1 h2 (fun k1 => ?_) (fun b' a' k1 k2 => ?_)
      · have k3 := k1 b g.1
        have k4 := g.2.1
        omega
      · have e := ei_best_u Y.1 k1 g
        rw [e] at k2 ⊢
        exact ⟨rfl, _, k2, X'⟩
theorem i_vc_takeNear {k : Nat} {u : SX} {v : SY} (I : i_Rel k u v) (hk : k + 3 ≤ 1536) (v1 : Int32) (v2 : Int32) : wpX_takeNear (fun r u' => wpY_takeNear (fun r' v' => r' = r ∧ i_Rel (k + 3) u' v') v v1 v2) u v1 v2 := by
  obtain ⟨F, Y, X⟩ := I
  rcases ei_blk v1 with h | ⟨s, hs, rfl⟩
  · obtain ⟨y1, y2, y3, y4, y5⟩ := u
    unfold wpX_takeNear
    dsimp only
    refine ei_xbB1 h (br_f (by decide) ?_)
    unfold wpY_takeNear
    exact ei_ybB1 h (br_f (by decide) ⟨rfl, F, Y, X⟩)
  · rcases ei_siz v2 with h | ⟨n, h1, h2, rfl⟩
    · obtain ⟨y1, y2, y3, y4, y5⟩ := u
      unfold wpX_takeNear
      dsimp only
      refine ei_xbB0 hs (br_t rfl (ei_xbS1 h (br_f (by decide) ?_)))
      unfold wpY_takeNear
      exact ei_ybB0 hs (br_t rfl (ei_ybS1 h (br_f (by decide) ⟨rfl, F, Y, X⟩)))
    · refine ei_xnear X hs h1 h2 (fun g => ?_) (fun b u' g X' => ?_)
      · refine ei_ynear Y hs h1 h2 (fun _ => ⟨rfl, F, Y, X⟩) (fun b a' k1 k2 => ?_)
        have k3 := g b k1.1
        have k4 := k1.2.1
        omega
      · refine ei_ynear Y hs h1 h2 (fun k1 => ?_) (fun b' a' k1 k2 => ?_)
        · have k3 := k1 b g.1
          have k4 := g.2.1
          omega
        · have e := ei_near_u k1 g
          rw [e] at k2 ⊢
          exact ⟨rfl, _, k2, X'⟩
theorem i_vc_takeAt {k : Nat} {u : SX} {v : SY} (I : i_Rel k u v) (hk : k + 3 ≤ 1536) (v1 : Int32) (v2 : Int32) : wpX_takeAt (fun r u' => wpY_takeAt (fun r' v' => r' = r ∧ i_Rel (k + 3) u' v') v v1 v2) u v1 v2 := by
  obtain ⟨F, Y, X⟩ := I
  rcases ei_blk v1 with h | ⟨b, hb, rfl⟩
  · obtain ⟨y1, y2, y3, y4, y5⟩ := u
    unfold wpX_takeAt
    dsimp only
    refine ei_xbB1 h (br_f (by decide) ?_)
    unfold wpY_takeAt
    exact ei_yrefB h (br_f (by decide) ⟨rfl, F, Y, X⟩)
  · rcases ei_siz v2 with h | ⟨n, h1, h2, rfl⟩
    · obtain ⟨y1, y2, y3, y4, y5⟩ := u
      unfold wpX_takeAt
      dsimp only
      refine ei_xbB0 hb (br_t rfl (ei_xbeyond1 h (br_f (by decide) ?_)))
      unfold wpY_takeAt
      exact ei_yrefS hb h (br_f (by decide) ⟨rfl, F, Y, X⟩)
    · by_cases hbn : b + n ≤ 256
      · refine ei_xtakeAt X hb h1 hbn (fun g => ?_) (fun g u' X' => ?_)
        · exact ei_ytakeAt Y hb h1 hbn (fun _ => ⟨rfl, F, Y, X⟩) (fun k1 => absurd k1 (by omega))
        · refine ei_ytakeAt Y hb h1 hbn (fun k1 => absurd k1 (by omega)) (fun _ a' Y' => ⟨?_, _, Y', X'⟩)
          exact (ei_RX_c X').symm
      · obtain ⟨y1, y2, y3, y4, y5⟩ := u
        unfold wpX_takeAt
        dsimp only
        refine ei_xbB0 hb (br_t rfl (ei_xbeyond2 hb h1 h2 (by omega) (br_f (by decide) ?_)))
        unfold wpY_takeAt
        exact ei_yref2 hb h1 h2 (by omega) (br_f (by decide) ⟨rfl, F, Y, X⟩)
theorem i_vc_give {k : Nat} {u : SX} {v : SY} (I : i_Rel k u v) (hk : k + 3 ≤ 1536) (v1 : Int32) (v2 : Int32) : wpX_give (fun r u' => wpY_give (fun r' v' => r' = r ∧ i_Rel (k + 3) u' v') v v1 v2) u v1 v2 := by
  obtain ⟨F, Y, X⟩ := I
  rcases ei_blk v1 with h | ⟨b, hb, rfl⟩
  · obtain ⟨y1, y2, y3, y4, y5⟩ := u
    unfold wpX_give
    dsimp only
    refine ei_xbB1 h (br_f (by decide) ?_)
    unfold wpY_give
    exact ei_yrefB h (br_f (by decide) ⟨rfl, F, Y, X⟩)
  · rcases ei_siz v2 with h | ⟨n, h1, h2, rfl⟩
    · obtain ⟨y1, y2, y3, y4, y5⟩ := u
      unfold wpX_give
      dsimp only
      refine ei_xbB0 hb (br_t rfl (ei_xbeyond1 h (br_f (by decide) ?_)))
      unfold wpY_give
      exact ei_yrefS hb h (br_f (by decide) ⟨rfl, F, Y, X⟩)
    · by_cases hbn : b + n ≤ 256
      · refine ei_xgive X hb h1 hbn (fun g => ?_) (fun g u' s X' k1 k2 k3 => ?_)
        · refine ei_ygive Y hb h1 hbn (fun _ => ⟨rfl, F, Y, X⟩) (fun k1 => ?_)
          obtain ⟨x, g1, g2, g3⟩ := g
          exact (ei_tf g3 (k1 x g1 g2)).elim
        · refine ei_ygive Y hb h1 hbn (fun z => ?_) (fun _ a' s' Y' k4 k5 k6 => ?_)
          · obtain ⟨x, g1, g2, g3⟩ := z
            exact (ei_tf g3 (g x g1 g2)).elim
          · have e := ei_ext_u Y'.1 k4 k1 k5 k6 k2 k3
            rw [e]
            exact ⟨rfl, _, Y', X'⟩
      · obtain ⟨y1, y2, y3, y4, y5⟩ := u
        unfold wpX_give
        dsimp only
        refine ei_xbB0 hb (br_t rfl (ei_xbeyond2 hb h1 h2 (by omega) (br_f (by decide) ?_)))
        unfold wpY_give
        exact ei_yref2 hb h1 h2 (by omega) (br_f (by decide) ⟨rfl, F, Y, X⟩)
theorem i_vc_takePieces {k : Nat} {u : SX} {v : SY} (I : i_Rel k u v) (hk : k + 3 ≤ 1536) (v1 : Int32) : wpX_takePieces (fun r u' => wpY_takePieces (fun r' v' => r' = r ∧ i_Rel (k + 3) u' v') v v1) u v1 := by
  obtain ⟨F, Y, X⟩ := I
  rcases ei_siz v1 with h | ⟨n, h1, h2, rfl⟩
  · obtain ⟨y1, y2, y3, y4, y5⟩ := u
    unfold wpX_takePieces
    dsimp only
    refine ei_xbS1 h (br_f (by decide) ?_)
    unfold wpY_takePieces
    exact ei_ybS1 h (br_f (by decide) ⟨rfl, F, Y, X⟩)
  · obtain ⟨F', r, u', a', X', Y', HX, HY⟩ := ei_pieces h2 256 F u v 0 0 (by omega) (ei_cnt_le F 256) (by omega) X Y
    obtain ⟨y1, y2, y3, y4, y5⟩ := u
    unfold wpX_takePieces
    dsimp only
    refine ei_xbS0 h1 h2 (br_t rfl ⟨257, HX _ 257 (by omega) ?_⟩)
    unfold wpY_takePieces
    exact ei_ybS0 h1 h2 (br_t rfl ⟨257, HY _ 257 (by omega) ⟨rfl, F', Y', X'⟩⟩)
theorem i_vc_clear {k : Nat} {u : SX} {v : SY} (I : i_Rel k u v) (hk : k + 3 ≤ 1536) : wpX_clear (fun u' => wpY_clear (fun v' => i_Rel (k + 3) u' v') v) u := by
  obtain ⟨F, Y, X⟩ := I
  refine ei_xclear u (fun u' X' => ?_)
  unfold wpY_clear
  refine ei_ymark0 (s := 0) (n := 256) Y (by omega) (fun a' Y' => ?_)
  rw [ei_full_of Y.1] at Y'
  exact ⟨_, Y', X'⟩
theorem i_vc_free {k : Nat} {u : SX} {v : SY} (I : i_Rel k u v) (hk : k + 3 ≤ 1536) (v1 : Int32) : wpX_free (fun r => wpY_free (fun r' => r' = r ∧ i_Rel (k + 3) u v) v v1) u v1 := by
  obtain ⟨F, Y, X⟩ := I
  have R : i_Rel (k + 3) u v := ⟨F, Y, X⟩
  obtain ⟨c, p, q, a1, a2, a3, rfl, I⟩ := X
  have hc := ei_XS_c128 I
  unfold wpX_free
  dsimp only
  rcases ei_blk v1 with h | ⟨b, hb, rfl⟩
  · refine ei_xbB1 h (br_f (by decide) ?_)
    unfold wpY_free
    exact ei_ybB1 h (br_f (by decide) ⟨rfl, R⟩)
  · refine ei_xbB0 hb (br_t rfl (ei_ext I hb (fun z => br_t (by decide) ?_) (fun i hi k1 k2 => br_f (nI_pos (by omega)) ?_)))
    · unfold wpY_free
      refine ei_ybB0 hb (br_t rfl ⟨vp_in_nI hb (by decide), br_f ?_ ⟨rfl, R⟩⟩)
      rw [nI_clamp (by omega)]
      exact fun y => ei_tf ((Y.2 b hb).mp y) z
    · unfold wpY_free
      refine ei_ybB0 hb (br_t rfl ⟨vp_in_nI hb (by decide), br_t ?_ ⟨rfl, R⟩⟩)
      rw [nI_clamp (by omega)]
      exact (Y.2 b hb).mpr (ei_run_t I.1 k1 k2)
theorem i_vc_freeBlocks {k : Nat} {u : SX} {v : SY} (I : i_Rel k u v) (hk : k + 3 ≤ 1536) : wpX_freeBlocks (fun r => wpY_freeBlocks (fun r' => r' = r ∧ i_Rel (k + 3) u v) v) u := by
  obtain ⟨F, Y, X⟩ := I
  have R : i_Rel (k + 3) u v := ⟨F, Y, X⟩
  obtain ⟨c, p, q, a1, a2, a3, rfl, I⟩ := X
  exact ei_yfree Y ⟨rfl, R⟩
theorem i_vc_extents {k : Nat} {u : SX} {v : SY} (I : i_Rel k u v) (hk : k + 3 ≤ 1536) : wpX_extents (fun r => wpY_extents (fun r' => r' = r ∧ i_Rel (k + 3) u v) v) u := by
  obtain ⟨F, Y, X⟩ := I
  have R : i_Rel (k + 3) u v := ⟨F, Y, X⟩
  have e := ei_RX_c X
  obtain ⟨c, p, q, a1, a2, a3, rfl, I⟩ := X
  exact ei_yext Y ⟨e.symm, R⟩
theorem i_vc_largest {k : Nat} {u : SX} {v : SY} (I : i_Rel k u v) (hk : k + 3 ≤ 1536) : wpX_largest (fun r => wpY_largest (fun r' => r' = r ∧ i_Rel (k + 3) u v) v) u := by
  obtain ⟨F, Y, X⟩ := I
  have R : i_Rel (k + 3) u v := ⟨F, Y, X⟩
  obtain ⟨c, p, q, a1, a2, a3, rfl, I⟩ := X
  have hc := ei_XS_c128 I
  unfold wpX_largest
  dsimp only
  refine pk_eq c 0 (fun e => ?_) (fun e => ?_)
  · refine ei_ylarge Y (fun M hM => ⟨?_, R⟩)
    rcases hM.2 with z | ⟨b, hb, z⟩
    · rw [z]; rfl
    · cases hF : F b with
      | false =>
        rw [ei_run_0 Y.1 hF] at z
        rw [← z]; rfl
      | true =>
        obtain ⟨s, _, h2, _⟩ := ei_cover Y.1 b hF
        obtain ⟨j, hj, _⟩ := ei_XS_at I h2
        omega
  · have hlast : c - 1 < c := by omega
    have hql := ei_XS_q I hlast
    have ecc : nI c - 1 = nI (c - 1) := pk_sub (b := 1) (by omega)
    have ed : a3 (nI c - 1).toNatClampNeg / 256 = nI (q (c - 1) / 256) := by
      rw [ecc, nI_clamp (by omega), I.2.2.2.1 _ hlast, ei_div256 (by omega)]
    refine ⟨pk_in (c - 1) 130 (by omega) ecc, by decide, ?_⟩
    rw [ed]
    refine ei_ylarge Y (fun M hM => ⟨congrArg nI (ei_most_u hM ?_), R⟩)
    obtain ⟨hb, hr⟩ := ei_key_iff.mp (ei_XS_key I hlast)
    rw [← hr]
    refine ei_pick_most' Y.1 hb (fun t ht => ?_)
    obtain ⟨j, hj, ej⟩ := ei_XS_kat I (ei_key_mk I.1 ht)
    have h6 := ei_en_mono I.2.2.2.2.2 (i := j) (j := c - 1) (by omega) hlast
    have h7 := ei_F_lt I.1 (ei_beg_F ht)
    omega
theorem i_vc_next {k : Nat} {u : SX} {v : SY} (I : i_Rel k u v) (hk : k + 3 ≤ 1536) (v1 : Int32) : wpX_next (fun r => wpY_next (fun r' => r' = r ∧ i_Rel (k + 3) u v) v v1) u v1 := by
  obtain ⟨F, Y, X⟩ := I
  have R : i_Rel (k + 3) u v := ⟨F, Y, X⟩
  obtain ⟨c, p, q, a1, a2, a3, rfl, I⟩ := X
  have hc := ei_XS_c128 I
  unfold wpX_next
  dsimp only
  rcases ei_blk v1 with h | ⟨b, hb, rfl⟩
  · refine ei_xbB1 h (br_f (by decide) ?_)
    unfold wpY_next
    exact ei_ybB1 h (br_f (by decide) ⟨rfl, R⟩)
  · obtain ⟨i, hi, hq⟩ := ei_part b c (ei_XS_s1 I)
    refine ei_xbB0 hb (br_t rfl (ei_first rfl hc (by omega) (ei_XS_h1 I) hi hq ?_))
    refine pk_eq i c (fun e => ?_) (fun e => ?_)
    · refine ei_ynext Y hb (fun _ => ⟨rfl, R⟩) (fun t ht1 ht2 _ => ?_)
      obtain ⟨j, hj, ej⟩ := ei_XS_at I ht2
      have := hq j hj
      omega
    · have hic : i < c := by omega
      have hge := hq i hic
      have e1 : a1 (nI i).toNatClampNeg = nI (p i) := by
        rw [nI_clamp (by omega)]
        exact I.2.1 i hic
      refine ⟨vp_in_nI (by omega) (by decide), ?_⟩
      rw [e1]
      refine ei_ynext Y hb (fun z => (ei_tf (ei_XS_beg I hic) (z (p i) (by omega))).elim) (fun t ht1 ht2 ht3 => ⟨congrArg nI ?_, R⟩)
      obtain ⟨j, hj, ej⟩ := ei_XS_at I ht2
      have hj2 := hq j hj
      have h6 := ei_en_mono I.2.2.2.2.1 (i := i) (j := j) (by omega) hj
      by_cases g : t = p i
      · exact g
      · exact (ei_tf (ei_XS_beg I hic) (ht3 (p i) (by omega) (by omega))).elim
theorem i_vc_sizeAt {k : Nat} {u : SX} {v : SY} (I : i_Rel k u v) (hk : k + 3 ≤ 1536) (v1 : Int32) : wpX_sizeAt (fun r => wpY_sizeAt (fun r' => r' = r ∧ i_Rel (k + 3) u v) v v1) u v1 := by
  obtain ⟨F, Y, X⟩ := I
  have R : i_Rel (k + 3) u v := ⟨F, Y, X⟩
  obtain ⟨c, p, q, a1, a2, a3, rfl, I⟩ := X
  have hc := ei_XS_c128 I
  unfold wpX_sizeAt
  dsimp only
  rcases ei_blk v1 with h | ⟨b, hb, rfl⟩
  · refine ei_xbB1 h (br_f (by decide) ?_)
    unfold wpY_sizeAt
    exact ei_ybB1 h (br_f (by decide) ⟨rfl, R⟩)
  · refine ei_xbB0 hb (br_t rfl (ei_ext I hb (fun z => br_f (by decide) ?_) (fun i hi k1 k2 => br_t (nI_pos' (by omega)) ⟨vp_in_nI (by omega) (by decide), ?_⟩)))
    · exact ei_ysize Y hb (fun _ => ⟨rfl, R⟩) (fun s g1 g2 g3 => (ei_tf (ei_run_t Y.1 g2 g3) z).elim)
    · have e2 : a2 (nI i).toNatClampNeg = nI (ei_run F (p i)) := by
        rw [nI_clamp (by omega)]
        exact I.2.2.1 i hi
      rw [e2]
      refine ei_ysize Y hb (fun z => (ei_tf (ei_run_t Y.1 k1 k2) z).elim) (fun s g1 g2 g3 => ?_)
      rw [ei_ext_u Y.1 g1 (ei_XS_beg I hi) g2 g3 k1 k2]
      exact ⟨rfl, R⟩
theorem i_vc_bySize {k : Nat} {u : SX} {v : SY} (I : i_Rel k u v) (hk : k + 3 ≤ 1536) (v1 : Int32) : wpX_bySize (fun r => wpY_bySize (fun r' => r' = r ∧ i_Rel (k + 3) u v) v v1) u v1 := by
  obtain ⟨F, Y, X⟩ := I
  have R : i_Rel (k + 3) u v := ⟨F, Y, X⟩
  obtain ⟨c, p, q, a1, a2, a3, rfl, I⟩ := X
  have hc := ei_XS_c128 I
  -- the count below a key is below c
  have hlt : ∀ x, ei_key F x = true → ∃ j, j < c ∧ q j = x ∧ ei_cnt (ei_key F) x = j := fun x hx => by
    obtain ⟨j, hj, ej⟩ := ei_XS_kat I hx
    refine ⟨j, hj, ej, ?_⟩
    rw [← ej]
    exact ei_en_at I.2.2.2.2.2 hj
  unfold wpX_bySize
  dsimp only
  by_cases h0 : v1 < 0
  · refine br_t h0 (ei_yby Y (fun x hx e => ?_) (fun _ => ⟨rfl, R⟩))
    obtain ⟨j, hj, ej, ec⟩ := hlt x hx
    rw [← e, ec] at h0
    exact absurd h0 (nI_pos (by omega))
  · obtain ⟨i, hi, rfl⟩ := nI_of h0
    refine br_f h0 (pk_lt i c (fun hic => ?_) (fun hic => ?_))
    · have hq := ei_XS_q I hic
      have e3 : a3 (nI i).toNatClampNeg - a3 (nI i).toNatClampNeg / 256 * 256 = nI (q i % 256) := by
        rw [nI_clamp (by omega), I.2.2.2.1 i hic, ei_rem256 (by omega)]
      refine ⟨vp_in_nI (by omega) (by decide), by decide, ?_⟩
      rw [e3]
      refine ei_yby Y (fun x hx e => ?_) (fun z => ?_)
      · obtain ⟨j, hj, ej, ec⟩ := hlt x hx
        rw [ec, nI_eq (by omega) (by omega)] at e
        rw [← ej, e]
        exact ⟨rfl, R⟩
      · exact absurd (congrArg nI (ei_en_at I.2.2.2.2.2 hic)) (z (q i) hq (ei_XS_key I hic))
    · refine ei_yby Y (fun x hx e => ?_) (fun _ => ⟨rfl, R⟩)
      obtain ⟨j, hj, ej, ec⟩ := hlt x hx
      rw [ec, nI_eq (by omega) hi] at e
      omega
theorem i_vc_atLeast {k : Nat} {u : SX} {v : SY} (I : i_Rel k u v) (hk : k + 3 ≤ 1536) (v1 : Int32) : wpX_atLeast (fun r => wpY_atLeast (fun r' => r' = r ∧ i_Rel (k + 3) u v) v v1) u v1 := by
  obtain ⟨F, Y, X⟩ := I
  have R : i_Rel (k + 3) u v := ⟨F, Y, X⟩
  obtain ⟨c, p, q, a1, a2, a3, rfl, I⟩ := X
  have hc := ei_XS_c128 I
  have hcc := ei_XS_c I
  have t1 : (1 : Int32).toInt = 1 := by decide
  have t256 : (256 : Int32).toInt = 256 := by decide
  unfold wpX_atLeast
  dsimp only
  by_cases h1 : v1 ≤ 256
  · refine br_t h1 ?_
    by_cases h2 : 1 ≤ v1
    · refine br_t h2 ?_
      rcases ei_siz v1 with h | ⟨n, k1, k2, rfl⟩
      · rcases h with h | h
        · exact absurd h2 (Int32.not_le.mpr h)
        · exact absurd h1 h.2
      · obtain ⟨i, hi, hq⟩ := ei_part (n * 256) c (ei_XS_s3 I)
        have e1 := ei_en_cnt I.2.2.2.2.2 (n * 256) i hi hq
        have e2 := ei_dP_cnt (F := F) n
        refine ei_keyF (ei_k256 n) hc (by omega) (ei_XS_h3 I) hi hq ?_
        refine ei_yat Y ⟨?_, R⟩
        rw [ei_atP_dP Y.1 k2, pk_sub hi]
        exact congrArg nI (by omega)
    · refine br_f h2 (ei_yat Y ⟨?_, R⟩)
      rw [Int32.le_iff_toInt_le, t1] at h2
      rw [hcc]
      refine congrArg nI (ei_cnt_congr 256 fun b hb => ?_)
      cases g : ei_beg F b with
      | false => exact ei_atP_f1 g
      | true =>
        have k1 := ei_run256 (b := b) Y (by omega)
        refine ei_atP_t g ?_
        rw [Int32.lt_iff_toInt_lt, nI_toInt (by omega)]
        omega
  · refine br_f h1 (ei_yat Y ⟨?_, R⟩)
    rw [Int32.le_iff_toInt_le, t256] at h1
    have e : ei_cnt (ei_atP F v1) 256 = 0 := ei_cnt_0 256 fun b hb => by
      have k1 := ei_run256 (b := b) Y (by omega)
      refine ei_atP_f2 ?_
      rw [Int32.lt_iff_toInt_lt, nI_toInt (by omega)]
      omega
    rw [e]
    rfl
end
