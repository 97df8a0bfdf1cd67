section
/-! rows of kit/rows/PURE-ROWS (starting text) -/
theorem pk_us {f : Nat → Int32} {k : Nat} {x : Int32} : upd f k x k = x := if_pos rfl
theorem pk_un {f : Nat → Int32} {k j : Nat} {x : Int32} (h : j ≠ k) : upd f k x j = f j := if_neg h
theorem pk_sub {a b : Nat} (h : b ≤ a) : nI a - nI b = nI (a - b) := by
  obtain ⟨c, rfl⟩ : ∃ c, a = c + b := ⟨a - b, by omega⟩
  rw [← nI_add, Int32.add_sub_cancel, Nat.add_sub_cancel]
theorem pk_m1 (n : Nat) : nI (n + 1) + (-1) = nI n := by
  rw [← nI_1, Int32.add_assoc, show (1 : Int32) + (-1) = 0 from rfl, Int32.add_zero]
theorem pk_mul (a b : Nat) : nI a * nI b = nI (a * b) := (Int32.ofNat_mul a b).symm
theorem pk_div {a d : Nat} (ha : a < 2 ^ 31) (h0 : 0 < d) (hd : d < 2 ^ 31) : nI a / nI d = nI (a / d) := by
  apply Int32.toInt_inj.mp
  rw [lg_idiv_nonneg (by rw [nI_toInt ha]; omega) (by rw [nI_toInt hd]; omega), nI_toInt ha, nI_toInt hd, nI_toInt (Nat.lt_of_le_of_lt (Nat.div_le_self a d) ha)]
  first | rfl | exact (Int.natCast_ediv _ _).symm
theorem pk_rem {a d : Nat} (ha : a < 2 ^ 31) (h0 : 0 < d) (hd : d < 2 ^ 31) : nI a - nI a / nI d * nI d = nI (a % d) := by
  rw [pk_div ha h0 hd, pk_mul, pk_sub (Nat.div_mul_le_self a d)]
  exact congrArg nI (by have := Nat.div_add_mod' a d; omega)
theorem pk_ix (x : Int32) {n : Nat} (hn : n < 2 ^ 31) : x < 0 ∨ nI n ≤ x ∨ ∃ j : Nat, j < n ∧ x = nI j := by
  by_cases h : x < 0
  · exact Or.inl h
  · obtain ⟨j, hj, rfl⟩ := nI_of h
    by_cases h2 : j < n
    · exact Or.inr (Or.inr ⟨j, h2, rfl⟩)
    · exact Or.inr (Or.inl (nI_le (by omega) hj))
theorem pk_le {x y : Int32} {A B : Prop} (a b : Nat) (f : a ≤ b → A) (g : b < a → B) (hx : x = nI a := by rfl) (hy : y = nI b := by rfl) (ha : a < 2 ^ 31 := by omega) (hb : b < 2 ^ 31 := by omega) : (x ≤ y → A) ∧ (¬ x ≤ y → B) := by
  subst hx hy
  rw [nI_leI ha hb]
  exact ⟨f, fun z => g (by omega)⟩
theorem pk_lt {x y : Int32} {A B : Prop} (a b : Nat) (f : a < b → A) (g : b ≤ a → B) (hx : x = nI a := by rfl) (hy : y = nI b := by rfl) (ha : a < 2 ^ 31 := by omega) (hb : b < 2 ^ 31 := by omega) : (x < y → A) ∧ (¬ x < y → B) := by
  subst hx hy
  rw [nI_ltI ha hb]
  exact ⟨f, fun z => g (by omega)⟩
theorem pk_eq {x y : Int32} {A B : Prop} (a b : Nat) (f : a = b → A) (g : a ≠ b → B) (hx : x = nI a := by rfl) (hy : y = nI b := by rfl) (ha : a < 2 ^ 31 := by omega) (hb : b < 2 ^ 31 := by omega) : (x = y → A) ∧ (¬ x = y → B) := by
  subst hx hy
  rw [nI_eq ha hb]
  exact ⟨f, g⟩
theorem pk_in {x : Int32} (n N : Nat) (h : n < N) (hx : x = nI n := by rfl) (hN : N < 2 ^ 31 := by omega) : vp_in x N := by
  subst hx
  exact vp_in_nI h hN
theorem pk_cl {x : Int32} (n : Nat) (hx : x = nI n := by rfl) (h : n < 2 ^ 31 := by omega) : x.toNatClampNeg = n := by
  subst hx
  exact nI_clamp h
theorem pk_tn {n : Nat} (h : n < 2 ^ 32) : (nI n).toBitVec.toNat = n := Nat.mod_eq_of_lt h
theorem pk_and (x : Int32) {m : Int32} (k : Nat) (hm : m.toBitVec.toNat = 2 ^ k - 1) : x &&& m = nI (x.toBitVec.toNat % 2 ^ k) := by
  apply Int32.toBitVec_inj.mp
  apply BitVec.eq_of_toNat_eq
  rw [Int32.toBitVec_and, BitVec.toNat_and, hm, Nat.and_two_pow_sub_one_eq_mod]
  show _ = (BitVec.ofNat 32 _).toNat
  rw [BitVec.toNat_ofNat]
  exact (Nat.mod_eq_of_lt (Nat.lt_of_le_of_lt (Nat.mod_le _ _) x.toBitVec.isLt)).symm
theorem pk_andN {n : Nat} (h : n < 2 ^ 32) {m : Int32} (k : Nat) (hm : m.toBitVec.toNat = 2 ^ k - 1) : nI n &&& m = nI (n % 2 ^ k) := by
  rw [pk_and _ k hm, pk_tn h]
theorem pk_andE (x : Int32) {m : Int32} (k : Nat) (hm : m.toBitVec.toNat = 2 ^ k - 1) : ∃ j : Nat, j < 2 ^ k ∧ x &&& m = nI j := ⟨_, Nat.mod_lt _ (Nat.two_pow_pos k), pk_and x k hm⟩
theorem pk_shr (a s : Int32) (k : Nat) (hs : (s.toBitVec.smod 32).toNat = k) : (a >>> s).toInt = a.toInt >>> k := by
  show (a.toBitVec.sshiftRight (s.toBitVec.smod 32).toNat).toInt = _
  rw [hs, BitVec.toInt_sshiftRight]
  rfl
theorem pk_shrN {n : Nat} (h : n < 2 ^ 31) (s : Int32) (k : Nat) (hs : (s.toBitVec.smod 32).toNat = k) : nI n >>> s = nI (n / 2 ^ k) := by
  apply Int32.toInt_inj.mp
  have h2 : n / 2 ^ k ≤ n := Nat.div_le_self _ _
  rw [pk_shr _ _ k hs, nI_toInt h, nI_toInt (by omega), Int.shiftRight_eq_div_pow]
  rfl
end
section
/-! numbers -/
theorem cs_cl {n : Nat} (h : n < 64) : (nI n).toNatClampNeg = n := nI_clamp (by omega)
theorem cs_in8 {n : Nat} (h : n < 8) : vp_in (nI n) 8 := vp_in_nI h (by omega)
theorem cs_in32 {n : Nat} (h : n < 32) : vp_in (nI n) 32 := vp_in_nI h (by omega)
theorem cs_in64 {n : Nat} (h : n < 64) : vp_in (nI n) 64 := vp_in_nI h (by omega)
theorem cs_e4 : (4 : Int32) = nI 4 := by decide
theorem cs_e8 : (8 : Int32) = nI 8 := by decide
theorem cs_m4 (p i : Nat) : 4 * nI p + nI i = nI (4 * p + i) := by rw [cs_e4, pk_mul, nI_add]
theorem cs_m8 (c k : Nat) : 8 * nI c + nI k = nI (8 * c + k) := by rw [cs_e8, pk_mul, nI_add]
theorem cs_m80 (c : Nat) : 8 * nI c = nI (8 * c) := by rw [cs_e8, pk_mul]
theorem cs_a7 {n : Nat} (h : n < 64) : nI n &&& 7 = nI (n % 8) := pk_andN (by omega) 3 (by decide)
theorem cs_a3 {n : Nat} (h : n < 64) : nI n &&& 3 = nI (n % 4) := pk_andN (by omega) 2 (by decide)
theorem cs_s2 {n : Nat} (h : n < 64) : nI n >>> ((2 : Int32) &&& 31) = nI (n / 4) := pk_shrN (by omega) _ 2 (by decide)
theorem cs_d4 {n : Nat} (h : n < 64) : nI n / 4 = nI (n / 4) := by rw [cs_e4]; exact pk_div (by omega) (by decide) (by decide)
theorem cs_r4 {n : Nat} (h : n < 64) : nI n - nI n / 4 * 4 = nI (n % 4) := by rw [cs_e4]; exact pk_rem (by omega) (by decide) (by decide)
theorem cs_nn4 {n : Nat} (h : n < 64) : ¬ nI n = -4 := by
  intro e
  have h1 := nI_toInt (n := n) (by omega)
  rw [e] at h1
  have h2 : (-4 : Int32).toInt = -4 := by decide
  omega
theorem cs_nn4' {n : Nat} (h : n < 64) : ¬ (-4 : Int32) = nI n := fun e => cs_nn4 h e.symm
theorem cs_pos {n : Nat} (h : n < 64) : ¬ nI n < 0 := nI_pos (by omega)
theorem cs_pos' {n : Nat} (h : n < 64) : 0 ≤ nI n := nI_pos' (by omega)
theorem cs_inj {a b : Nat} (ha : a < 64) (hb : b < 64) (h : nI a = nI b) : a = b := (nI_eq (by omega) (by omega)).mp h
theorem cs_ne {a b : Nat} (ha : a < 64) (hb : b < 64) (h : a ≠ b) : ¬ nI a = nI b := fun e => h (cs_inj ha hb e)
theorem cs_us (f : Nat → Int32) (k : Nat) : upd f k (f k) = f := by
  funext j
  by_cases h : j = k
  · subst h; exact pk_us
  · exact pk_un h
/-! the line: taking a process out -/
def cs_lv (q : Int32) : Nat → Nat → Nat → (Nat → Int32) → Nat × (Nat → Int32)
  | 0, kp, _, a => (kp, a)
  | d + 1, kp, k, a => if a k = q then cs_lv q d kp (k + 1) a else cs_lv q d (kp + 1) (k + 1) (upd a kp (a k))
theorem cs_lv_t {q : Int32} {d kp k : Nat} {a : Nat → Int32} (h : a k = q) : cs_lv q (d + 1) kp k a = cs_lv q d kp (k + 1) a := by
  rw [cs_lv, if_pos h]
theorem cs_lv_f {q : Int32} {d kp k : Nat} {a : Nat → Int32} (h : ¬ a k = q) : cs_lv q (d + 1) kp k a = cs_lv q d (kp + 1) (k + 1) (upd a kp (a k)) := by
  rw [cs_lv, if_neg h]
theorem cs_lv_id (q : Int32) : ∀ (d k : Nat) (a : Nat → Int32), (∀ i, k ≤ i → i < k + d → ¬ a i = q) → cs_lv q d k k a = (k + d, a) := by
  intro d
  induction d with
  | zero => intro k a _; rfl
  | succ d ih =>
    intro k a h
    rw [cs_lv_f (h k (by omega) (by omega)), cs_us, ih (k + 1) a (fun i h1 h2 => h i (by omega) (by omega))]
    rw [show k + 1 + d = k + (d + 1) from by omega]
theorem cs_lv_good (q : Int32) (Q : Int32 → Prop) : ∀ (d kp k : Nat) (a : Nat → Int32), kp ≤ k →
    (∀ i, i < kp → Q (a i) ∧ ¬ a i = q) → (∀ i, k ≤ i → i < k + d → Q (a i)) →
    (∀ i j, i < j → (j < kp ∨ (k ≤ j ∧ j < k + d)) → (i < kp ∨ k ≤ i) → ¬ a i = a j) →
    (cs_lv q d kp k a).1 ≤ kp + d ∧ (∀ i, i < (cs_lv q d kp k a).1 → Q ((cs_lv q d kp k a).2 i) ∧ ¬ (cs_lv q d kp k a).2 i = q) ∧
    (∀ i j, i < j → j < (cs_lv q d kp k a).1 → ¬ (cs_lv q d kp k a).2 i = (cs_lv q d kp k a).2 j) := by
  intro d
  induction d with
  | zero =>
    intro kp k a hk h1 h2 h3
    exact ⟨Nat.le_refl _, h1, fun i j hij hj => h3 i j hij (Or.inl hj) (Or.inl (Nat.lt_trans hij hj))⟩
  | succ d ih =>
    intro kp k a hk h1 h2 h3
    by_cases z : a k = q
    · rw [cs_lv_t z]
      obtain ⟨g1, g2, g3⟩ := ih kp (k + 1) a (by omega) h1 (fun i e1 e2 => h2 i (by omega) (by omega))
        (fun i j hij hj hi => h3 i j hij (by omega) (by omega))
      exact ⟨by omega, g2, g3⟩
    · rw [cs_lv_f z]
      obtain ⟨g1, g2, g3⟩ := ih (kp + 1) (k + 1) (upd a kp (a k)) (by omega)
        (fun i hi => by
          by_cases e : i = kp
          · subst e
            rw [pk_us]
            exact ⟨h2 k (by omega) (by omega), z⟩
          · rw [pk_un e]
            exact h1 i (by omega))
        (fun i e1 e2 => by
          rw [pk_un (by omega)]
          exact h2 i (by omega) (by omega))
        (fun i j hij hj hi => by
          by_cases e : i = kp
          · subst e
            rw [pk_us, pk_un (by omega)]
            exact h3 k j (by omega) (by omega) (by omega)
          · rw [pk_un e]
            by_cases e2 : j = kp
            · subst e2
              rw [pk_us]
              exact h3 i k (by omega) (by omega) (by omega)
            · rw [pk_un e2]
              exact h3 i j hij (by omega) (by omega))
      exact ⟨by omega, g2, g3⟩
/-! n different numbers below N -/
theorem cs_pig : ∀ (N n : Nat) (a : Nat → Nat), (∀ i, i < n → a i < N) → (∀ i j, i < j → j < n → a i ≠ a j) → n ≤ N := by
  intro N
  induction N with
  | zero =>
    intro n a h _
    cases n with
    | zero => exact Nat.le_refl _
    | succ n => exact absurd (h 0 (by omega)) (by omega)
  | succ N ih =>
    intro n a h1 h2
    by_cases z : ∃ i, i < n ∧ a i = N
    · obtain ⟨i0, hi0, e0⟩ := z
      have := ih (n - 1) (fun i => if i < i0 then a i else a (i + 1))
        (fun i hi => by
          by_cases e : i < i0
          · rw [if_pos e]
            have q1 := h1 i (by omega)
            have q2 := h2 i i0 e hi0
            omega
          · rw [if_neg e]
            have q1 := h1 (i + 1) (by omega)
            have q2 := h2 i0 (i + 1) (by omega) (by omega)
            omega)
        (fun i j hij hj => by
          by_cases e : i < i0
          · rw [if_pos e]
            by_cases e2 : j < i0
            · rw [if_pos e2]; exact h2 i j hij (by omega)
            · rw [if_neg e2]; exact h2 i (j + 1) (by omega) (by omega)
          · rw [if_neg e, if_neg (by omega)]
            exact h2 (i + 1) (j + 1) (by omega) (by omega))
      omega
    · have := ih n a (fun i hi => by
        have q1 := h1 i hi
        have q2 : a i ≠ N := fun e => z ⟨i, hi, e⟩
        omega) h2
      omega
/-! releasing -/
def cs_rl (p : Int32) : Nat → Nat → (Nat → Int32) → (Nat → Int32)
  | 0, _, a => a
  | d + 1, k, a => if a k = p then cs_rl p d (k + 1) (upd a k (-4)) else cs_rl p d (k + 1) a
theorem cs_rl_t {p : Int32} {d k : Nat} {a : Nat → Int32} (h : a k = p) : cs_rl p (d + 1) k a = cs_rl p d (k + 1) (upd a k (-4)) := by
  rw [cs_rl, if_pos h]
theorem cs_rl_f {p : Int32} {d k : Nat} {a : Nat → Int32} (h : ¬ a k = p) : cs_rl p (d + 1) k a = cs_rl p d (k + 1) a := by
  rw [cs_rl, if_neg h]
/-! waits -/
def cs_w1 (ch kd : Nat → Int32) (c kind : Int32) (q : Nat) : Nat → Nat → List Nat
  | 0, _ => []
  | d + 1, i => if ch (4 * q + i) = c ∧ kd (4 * q + i) = kind then (4 * q + i) :: cs_w1 ch kd c kind q d (i + 1) else cs_w1 ch kd c kind q d (i + 1)
theorem cs_w1_t {ch kd : Nat → Int32} {c kind : Int32} {q d i : Nat} (h : ch (4 * q + i) = c) (h' : kd (4 * q + i) = kind) : cs_w1 ch kd c kind q (d + 1) i = (4 * q + i) :: cs_w1 ch kd c kind q d (i + 1) := by
  rw [cs_w1, if_pos ⟨h, h'⟩]
theorem cs_w1_f {ch kd : Nat → Int32} {c kind : Int32} {q d i : Nat} (h : ¬ (ch (4 * q + i) = c ∧ kd (4 * q + i) = kind)) : cs_w1 ch kd c kind q (d + 1) i = cs_w1 ch kd c kind q d (i + 1) := by
  rw [cs_w1, if_neg h]
def cs_ws (ch kd : Nat → Int32) (c kind : Int32) (cn li : Nat → Int32) : Nat → Nat → List Nat
  | 0, _ => []
  | d + 1, k => cs_w1 ch kd c kind (li k).toNatClampNeg (cn (li k).toNatClampNeg).toNatClampNeg 0 ++ cs_ws ch kd c kind cn li d (k + 1)
theorem cs_ws_s {ch kd : Nat → Int32} {c kind : Int32} {cn li : Nat → Int32} {d k q n : Nat} (h : (li k).toNatClampNeg = q) (h' : (cn q).toNatClampNeg = n) : cs_ws ch kd c kind cn li (d + 1) k = cs_w1 ch kd c kind q n 0 ++ cs_ws ch kd c kind cn li d (k + 1) := by
  subst h'
  subst h
  rfl
theorem cs_w1_mem {ch kd : Nat → Int32} {c kind : Int32} {q a : Nat} : ∀ (d i : Nat), a ∈ cs_w1 ch kd c kind q d i → ∃ j, i ≤ j ∧ j < i + d ∧ a = 4 * q + j := by
  intro d
  induction d with
  | zero => intro i h; exact absurd h (by rw [cs_w1]; exact List.not_mem_nil)
  | succ d ih =>
    intro i h
    by_cases z : ch (4 * q + i) = c ∧ kd (4 * q + i) = kind
    · rw [cs_w1_t z.1 z.2] at h
      rcases List.mem_cons.mp h with e | e
      · exact ⟨i, by omega, by omega, e⟩
      · obtain ⟨j, h1, h2, h3⟩ := ih (i + 1) e
        exact ⟨j, by omega, by omega, h3⟩
    · rw [cs_w1_f z] at h
      obtain ⟨j, h1, h2, h3⟩ := ih (i + 1) h
      exact ⟨j, by omega, by omega, h3⟩
theorem cs_ws_mem {ch kd : Nat → Int32} {c kind : Int32} {cn li : Nat → Int32} {a : Nat} : ∀ (d k : Nat), a ∈ cs_ws ch kd c kind cn li d k →
    ∃ m j, k ≤ m ∧ m < k + d ∧ j < (cn (li m).toNatClampNeg).toNatClampNeg ∧ a = 4 * (li m).toNatClampNeg + j := by
  intro d
  induction d with
  | zero => intro k h; exact absurd h (by rw [cs_ws]; exact List.not_mem_nil)
  | succ d ih =>
    intro k h
    rw [cs_ws] at h
    rcases List.mem_append.mp h with e | e
    · obtain ⟨j, _, h2, h3⟩ := cs_w1_mem _ _ e
      exact ⟨k, j, by omega, by omega, by omega, h3⟩
    · obtain ⟨m, j, h1, h2, h3, h4⟩ := ih (k + 1) e
      exact ⟨m, j, by omega, by omega, h3, h4⟩
theorem cs_w1_len {ch kd : Nat → Int32} {c kind : Int32} {q : Nat} : ∀ (d i : Nat), (cs_w1 ch kd c kind q d i).length ≤ d := by
  intro d
  induction d with
  | zero => intro i; rw [cs_w1]; exact Nat.le_refl _
  | succ d ih =>
    intro i
    have := ih (i + 1)
    by_cases z : ch (4 * q + i) = c ∧ kd (4 * q + i) = kind
    · rw [cs_w1_t z.1 z.2, List.length_cons]; omega
    · rw [cs_w1_f z]; omega
theorem cs_ws_len {ch kd : Nat → Int32} {c kind : Int32} {cn li : Nat → Int32} (hc : ∀ p, (cn p).toNatClampNeg ≤ 4) : ∀ (d k : Nat), (cs_ws ch kd c kind cn li d k).length ≤ 4 * d := by
  intro d
  induction d with
  | zero => intro k; rw [cs_ws]; exact Nat.le_refl _
  | succ d ih =>
    intro k
    have h1 := ih (k + 1)
    have h2 := cs_w1_len (ch := ch) (kd := kd) (c := c) (kind := kind) (q := (li k).toNatClampNeg) (cn (li k).toNatClampNeg).toNatClampNeg 0
    have h3 := hc (li k).toNatClampNeg
    rw [cs_ws, List.length_append]
    omega
/-! wait kk of a list of waits: as the loops ask it, and as a value -/
def cs_wk (post J : Int32 → Prop) (kk : Int32) : List Nat → Int32 → Prop
  | [], s => J s
  | a :: t, s => (s = kk → post (nI a)) ∧ (¬ s = kk → cs_wk post J kk t (s + 1))
theorem cs_wk_app {post J : Int32 → Prop} {kk : Int32} : ∀ (l m : List Nat) (s : Int32), cs_wk post J kk (l ++ m) s → cs_wk post (fun s' => cs_wk post J kk m s') kk l s := by
  intro l
  induction l with
  | nil => intro m s h; exact h
  | cons a t ih => intro m s h; exact ⟨h.1, fun z => ih m (s + 1) (h.2 z)⟩
def cs_fw (kk : Int32) : List Nat → Int32 → Int32
  | [], _ => -4
  | a :: t, s => if s = kk then nI a else cs_fw kk t (s + 1)
theorem cs_wk_fw {post : Int32 → Prop} {kk : Int32} : ∀ (l : List Nat) (s : Int32), post (cs_fw kk l s) → cs_wk post (fun _ => post (-4)) kk l s := by
  intro l
  induction l with
  | nil => intro s h; exact h
  | cons a t ih =>
    intro s h
    by_cases z : s = kk
    · rw [cs_fw, if_pos z] at h
      exact br_t z h
    · rw [cs_fw, if_neg z] at h
      exact br_f z (ih (s + 1) h)
theorem cs_fw_mem {kk : Int32} : ∀ (l : List Nat) (s : Int32), cs_fw kk l s = -4 ∨ ∃ a, a ∈ l ∧ cs_fw kk l s = nI a := by
  intro l
  induction l with
  | nil => intro s; exact Or.inl rfl
  | cons a t ih =>
    intro s
    by_cases z : s = kk
    · rw [cs_fw, if_pos z]
      exact Or.inr ⟨a, List.mem_cons_self, rfl⟩
    · rw [cs_fw, if_neg z]
      rcases ih (s + 1) with e | ⟨b, h1, h2⟩
      · exact Or.inl e
      · exact Or.inr ⟨b, List.mem_cons_of_mem _ h1, h2⟩
theorem cs_fw_lt {k : Nat} (hk : k < 64) : ∀ (l : List Nat) (s : Nat), s ≤ k → k < s + l.length → ∃ a, a ∈ l ∧ cs_fw (nI k) l (nI s) = nI a := by
  intro l
  induction l with
  | nil => intro s h1 h2; exact absurd h2 (by rw [List.length_nil]; omega)
  | cons a t ih =>
    intro s h1 h2
    rw [List.length_cons] at h2
    by_cases z : s = k
    · rw [cs_fw, if_pos (by rw [z])]
      exact ⟨a, List.mem_cons_self, rfl⟩
    · rw [cs_fw, if_neg (cs_ne (by omega) hk z), nI_1]
      obtain ⟨b, g1, g2⟩ := ih (s + 1) (by omega) (by omega)
      exact ⟨b, List.mem_cons_of_mem _ g1, g2⟩
theorem cs_fw_ge {k : Nat} (hk : k < 64) : ∀ (l : List Nat) (s : Nat), s + l.length ≤ k → cs_fw (nI k) l (nI s) = -4 := by
  intro l
  induction l with
  | nil => intro s _; rfl
  | cons a t ih =>
    intro s h
    rw [List.length_cons] at h
    rw [cs_fw, if_neg (cs_ne (by omega) hk (by omega)), nI_1]
    exact ih (s + 1) (by omega)
theorem cs_wk_mono {post J J' : Int32 → Prop} {kk : Int32} (h : ∀ s, J s → J' s) : ∀ (l : List Nat) (s : Int32), cs_wk post J kk l s → cs_wk post J' kk l s := by
  intro l
  induction l with
  | nil => intro s g; exact h s g
  | cons a t ih => intro s g; exact ⟨g.1, fun z => ih (s + 1) (g.2 z)⟩
end
section
/-! the lowest case of a list -/
def cs_lc (ch kd : Nat → Int32) (c kind : Int32) (p : Nat) : Nat → Nat → Int32
  | 0, _ => -4
  | d + 1, i => if ch (4 * p + i) = c ∧ kd (4 * p + i) = kind then nI i else cs_lc ch kd c kind p d (i + 1)
theorem cs_lc_t {ch kd : Nat → Int32} {c kind : Int32} {p d i : Nat} (h : ch (4 * p + i) = c) (h' : kd (4 * p + i) = kind) : cs_lc ch kd c kind p (d + 1) i = nI i := by
  rw [cs_lc, if_pos ⟨h, h'⟩]
theorem cs_lc_f {ch kd : Nat → Int32} {c kind : Int32} {p d i : Nat} (h : ¬ (ch (4 * p + i) = c ∧ kd (4 * p + i) = kind)) : cs_lc ch kd c kind p (d + 1) i = cs_lc ch kd c kind p d (i + 1) := by
  rw [cs_lc, if_neg h]
theorem cs_lc_spec {ch kd : Nat → Int32} {c kind : Int32} {p : Nat} : ∀ (d i : Nat),
    (cs_lc ch kd c kind p d i = -4 ∧ ∀ j, i ≤ j → j < i + d → ¬ (ch (4 * p + j) = c ∧ kd (4 * p + j) = kind)) ∨
    ∃ j, i ≤ j ∧ j < i + d ∧ (ch (4 * p + j) = c ∧ kd (4 * p + j) = kind) ∧ cs_lc ch kd c kind p d i = nI j := by
  intro d
  induction d with
  | zero => intro i; exact Or.inl ⟨rfl, fun j h1 h2 => absurd h2 (by omega)⟩
  | succ d ih =>
    intro i
    by_cases z : ch (4 * p + i) = c ∧ kd (4 * p + i) = kind
    · exact Or.inr ⟨i, by omega, by omega, z, cs_lc_t z.1 z.2⟩
    · rw [cs_lc_f z]
      rcases ih (i + 1) with ⟨h1, h2⟩ | ⟨j, h1, h2, h3, h4⟩
      · refine Or.inl ⟨h1, fun j g1 g2 => ?_⟩
        by_cases e : j = i
        · subst e; exact z
        · exact h2 j (by omega) (by omega)
      · exact Or.inr ⟨j, by omega, by omega, h3, h4⟩
/-! is a channel named by the first n cases of p -/
def cs_nb (ch : Nat → Int32) (c : Int32) (p : Nat) : Nat → Bool
  | 0 => false
  | n + 1 => cs_nb ch c p n || decide (ch (4 * p + n) = c)
theorem cs_nb_iff {ch : Nat → Int32} {c : Int32} {p : Nat} : ∀ (n : Nat), cs_nb ch c p n = true ↔ ∃ j, j < n ∧ ch (4 * p + j) = c := by
  intro n
  induction n with
  | zero => exact ⟨fun h => (by cases h), fun ⟨j, h, _⟩ => absurd h (by omega)⟩
  | succ n ih =>
    rw [cs_nb, Bool.or_eq_true, ih, decide_eq_true_iff]
    constructor
    · rintro (⟨j, h1, h2⟩ | h)
      · exact ⟨j, by omega, h2⟩
      · exact ⟨n, by omega, h⟩
    · rintro ⟨j, h1, h2⟩
      by_cases e : j = n
      · subst e; exact Or.inr h2
      · exact Or.inl ⟨j, by omega, h2⟩
/-- either kind's lowest case shows whether the channel is named -/
theorem cs_nb_lc {ch kd : Nat → Int32} {c : Int32} {p n : Nat} (hk : ∀ j, kd j = 0 ∨ kd j = 1) (hn : n < 64) :
    (0 ≤ cs_lc ch kd c 0 p n 0 ∨ ¬ cs_lc ch kd c 1 p n 0 < 0) ↔ cs_nb ch c p n = true := by
  have e4 : ¬ (0 : Int32) ≤ -4 := by decide
  have f4 : (-4 : Int32) < 0 := by decide
  rw [cs_nb_iff]
  constructor
  · rintro (h | h)
    · rcases cs_lc_spec (ch := ch) (kd := kd) (c := c) (kind := 0) (p := p) n 0 with ⟨h1, _⟩ | ⟨j, _, h2, h3, _⟩
      · rw [h1] at h; exact absurd h e4
      · exact ⟨j, by omega, h3.1⟩
    · rcases cs_lc_spec (ch := ch) (kd := kd) (c := c) (kind := 1) (p := p) n 0 with ⟨h1, _⟩ | ⟨j, _, h2, h3, _⟩
      · rw [h1] at h; exact absurd f4 h
      · exact ⟨j, by omega, h3.1⟩
  · rintro ⟨j, h1, h2⟩
    rcases hk (4 * p + j) with e | e
    · refine Or.inl ?_
      rcases cs_lc_spec (ch := ch) (kd := kd) (c := c) (kind := 0) (p := p) n 0 with ⟨_, g2⟩ | ⟨i, _, g2, _, g4⟩
      · exact absurd ⟨h2, e⟩ (g2 j (by omega) (by omega))
      · rw [g4]; exact cs_pos' (by omega)
    · refine Or.inr ?_
      rcases cs_lc_spec (ch := ch) (kd := kd) (c := c) (kind := 1) (p := p) n 0 with ⟨_, g2⟩ | ⟨i, _, g2, _, g4⟩
      · exact absurd ⟨h2, e⟩ (g2 j (by omega) (by omega))
      · rw [g4]; exact cs_pos (by omega)
/-! the smallest channel wanting -/
def cs_ms (ch ow : Nat → Int32) (p C n : Nat) (m : Int32) : Prop :=
  (m = -4 ∧ ∀ j, j < n → ∀ b, b < 8 → ch (4 * p + j) = nI b → ow b = nI p) ∨
  ∃ b, b < C ∧ m = nI b ∧ ¬ ow b = nI p ∧ (∃ j, j < n ∧ ch (4 * p + j) = nI b) ∧ ∀ j, j < n → ∀ b', b' < 8 → ch (4 * p + j) = nI b' → ¬ ow b' = nI p → b ≤ b'
theorem cs_ms_0 {ch ow : Nat → Int32} {p C : Nat} : cs_ms ch ow p C 0 (-4) := Or.inl ⟨rfl, fun j h => absurd h (by omega)⟩
theorem cs_ms_own {ch ow : Nat → Int32} {p C i b : Nat} {m : Int32} (hb : b < 8) (hc : ch (4 * p + i) = nI b) (ho : ow b = nI p) (h : cs_ms ch ow p C i m) : cs_ms ch ow p C (i + 1) m := by
  rcases h with ⟨h1, h2⟩ | ⟨b0, h1, h2, h3, ⟨j, h4, h5⟩, h6⟩
  · refine Or.inl ⟨h1, fun j hj b' hb' e => ?_⟩
    by_cases z : j = i
    · subst z
      have : b' = b := cs_inj (by omega) (by omega) (e.symm.trans hc)
      subst this
      exact ho
    · exact h2 j (by omega) b' hb' e
  · refine Or.inr ⟨b0, h1, h2, h3, ⟨j, by omega, h5⟩, fun k hk b' hb' e g => ?_⟩
    by_cases z : k = i
    · subst z
      have : b' = b := cs_inj (by omega) (by omega) (e.symm.trans hc)
      subst this
      exact absurd ho g
    · exact h6 k (by omega) b' hb' e g
theorem cs_ms_first {ch ow : Nat → Int32} {p C i b : Nat} (hb : b < 8) (hbC : b < C) (hC : C ≤ 8) (hc : ch (4 * p + i) = nI b) (ho : ¬ ow b = nI p) (h : cs_ms ch ow p C i (-4)) : cs_ms ch ow p C (i + 1) (nI b) := by
  rcases h with ⟨_, h2⟩ | ⟨b0, h1, h2, _⟩
  · refine Or.inr ⟨b, hbC, rfl, ho, ⟨i, by omega, hc⟩, fun k hk b' hb' e g => ?_⟩
    by_cases z : k = i
    · subst z
      have : b' = b := cs_inj (by omega) (by omega) (e.symm.trans hc)
      omega
    · exact absurd (h2 k (by omega) b' hb' e) g
  · exact absurd h2 (cs_nn4' (by omega))
theorem cs_ms_keep {ch ow : Nat → Int32} {p C i b : Nat} {m : Int32} (hb : b < 8) (hC : C ≤ 8) (hc : ch (4 * p + i) = nI b) (hm : ¬ m = -4) (hl : m ≤ nI b) (h : cs_ms ch ow p C i m) : cs_ms ch ow p C (i + 1) m := by
  rcases h with ⟨h1, _⟩ | ⟨b0, h1, h2, h3, ⟨j, h4, h5⟩, h6⟩
  · exact absurd h1 hm
  · refine Or.inr ⟨b0, h1, h2, h3, ⟨j, by omega, h5⟩, fun k hk b' hb' e g => ?_⟩
    by_cases z : k = i
    · subst z
      have q : b' = b := cs_inj (by omega) (by omega) (e.symm.trans hc)
      rw [h2] at hl
      have := (nI_leI (by omega) (by omega)).mp hl
      omega
    · exact h6 k (by omega) b' hb' e g
theorem cs_ms_less {ch ow : Nat → Int32} {p C i b : Nat} {m : Int32} (hb : b < 8) (hbC : b < C) (hC : C ≤ 8) (hc : ch (4 * p + i) = nI b) (ho : ¬ ow b = nI p) (hm : ¬ m = -4) (hl : ¬ m ≤ nI b) (h : cs_ms ch ow p C i m) : cs_ms ch ow p C (i + 1) (nI b) := by
  rcases h with ⟨h1, _⟩ | ⟨b0, h1, h2, h3, ⟨j, h4, h5⟩, h6⟩
  · exact absurd h1 hm
  · refine Or.inr ⟨b, hbC, rfl, ho, ⟨i, by omega, hc⟩, fun k hk b' hb' e g => ?_⟩
    by_cases z : k = i
    · subst z
      have q : b' = b := cs_inj (by omega) (by omega) (e.symm.trans hc)
      omega
    · have q1 := h6 k (by omega) b' hb' e g
      rw [h2, nI_leI (by omega) (by omega)] at hl
      omega
/-- the answer is -4 or a channel -/
theorem cs_ms_or {ch ow : Nat → Int32} {p C n : Nat} {m : Int32} (h : cs_ms ch ow p C n m) : m = -4 ∨ ∃ b, b < C ∧ m = nI b := by
  rcases h with ⟨h1, _⟩ | ⟨b0, h1, h2, _⟩
  · exact Or.inl h1
  · exact Or.inr ⟨b0, h1, h2⟩
/-! counting the named channels -/
def cs_ct (f : Nat → Bool) : Nat → Nat
  | 0 => 0
  | n + 1 => cs_ct f n + (if f n = true then 1 else 0)
theorem cs_ct_le (f : Nat → Bool) : ∀ n, cs_ct f n ≤ n := by
  intro n
  induction n with
  | zero => exact Nat.le_refl _
  | succ n ih =>
    rw [cs_ct]
    by_cases z : f n = true
    · rw [if_pos z]; omega
    · rw [if_neg z]; omega
theorem cs_ct_t {f : Nat → Bool} {n : Nat} (h : f n = true) : cs_ct f (n + 1) = cs_ct f n + 1 := by rw [cs_ct, if_pos h]
theorem cs_ct_f {f : Nat → Bool} {n : Nat} (h : ¬ f n = true) : cs_ct f (n + 1) = cs_ct f n := by rw [cs_ct, if_neg h]; rfl
theorem cs_ct_eq {f g : Nat → Bool} : ∀ n, (∀ c, c < n → g c = f c) → cs_ct g n = cs_ct f n := by
  intro n
  induction n with
  | zero => intro _; rfl
  | succ n ih =>
    intro h
    rw [cs_ct, cs_ct, ih (fun c hc => h c (by omega)), h n (by omega)]
theorem cs_ct_new {f g : Nat → Bool} {b : Nat} (hb : f b = false) (hg : g b = true) (hk : ∀ c, c ≠ b → g c = f c) : ∀ n, b < n → cs_ct g n = cs_ct f n + 1 := by
  intro n
  induction n with
  | zero => intro h; omega
  | succ n ih =>
    intro h
    by_cases z : b = n
    · subst z
      rw [cs_ct_t hg, cs_ct_f (by rw [hb]; decide), cs_ct_eq b (fun c hc => hk c (by omega))]
    · have q := ih (by omega)
      by_cases y : f n = true
      · rw [cs_ct_t y, cs_ct_t (by rw [hk n (by omega)]; exact y)]; omega
      · rw [cs_ct_f y, cs_ct_f (by rw [hk n (by omega)]; exact y)]; omega
/-! a set of channels as bits -/
theorem cs_bits : ∀ c, c < 8 → ∀ s, s < 256 → (decide ((nI s &&& ((1 : Int32) <<< (nI c &&& 31))) = 0) = !s.testBit c) ∧ (nI s ||| ((1 : Int32) <<< (nI c &&& 31))) = nI (s ||| 2 ^ c) := by decide +kernel
theorem cs_bit0 {c s : Nat} (hc : c < 8) (hs : s < 256) (h : s.testBit c = false) : (nI s &&& ((1 : Int32) <<< (nI c &&& 31))) = 0 := by
  have := (cs_bits c hc s hs).1
  rw [h] at this
  exact of_decide_eq_true this
theorem cs_bit1 {c s : Nat} (hc : c < 8) (hs : s < 256) (h : s.testBit c = true) : ¬ (nI s &&& ((1 : Int32) <<< (nI c &&& 31))) = 0 := by
  have := (cs_bits c hc s hs).1
  rw [h] at this
  exact of_decide_eq_false this
theorem cs_bitU {c s : Nat} (hc : c < 8) (hs : s < 256) : s ||| 2 ^ c < 256 :=
  Nat.or_lt_two_pow (n := 8) hs (Nat.pow_lt_pow_right (by decide) hc)
theorem cs_bitT {c s d : Nat} : (s ||| 2 ^ c).testBit d = (s.testBit d || decide (c = d)) := by
  rw [Nat.testBit_or, Nat.testBit_two_pow]
/-! the buffers -/
def cs_sh (c : Nat) : Nat → Nat → (Nat → Int32) → (Nat → Int32)
  | 0, _, b => b
  | d + 1, k, b => cs_sh c d (k + 1) (upd b (8 * c + k) (b (8 * c + k + 1)))
theorem cs_sh_at {c : Nat} : ∀ (d k : Nat) (b : Nat → Int32) (j : Nat), cs_sh c d k b j = if 8 * c + k ≤ j ∧ j < 8 * c + k + d then b (j + 1) else b j := by
  intro d
  induction d with
  | zero => intro k b j; rw [cs_sh, if_neg (by omega)]
  | succ d ih =>
    intro k b j
    rw [cs_sh, ih]
    by_cases z : j = 8 * c + k
    · subst z
      rw [if_neg (by omega), if_pos (by omega), pk_us]
    · by_cases y : 8 * c + (k + 1) ≤ j ∧ j < 8 * c + (k + 1) + d
      · rw [if_pos y, if_pos (by omega), pk_un (by omega)]
      · rw [if_neg y, if_neg (by omega), pk_un z]
def cs_B (Z : Nat) (ub : Int32) (cp hd ln b1 b2 : Nat → Int32) : Prop :=
  Z ≤ 8 ∧ (∀ c, c < 8 → (ub ≤ nI c → cp c = nI Z) ∧ (¬ ub ≤ nI c → cp c = 0)) ∧
  (∀ c, c < 8 → ∃ h l, h < 8 ∧ l ≤ 8 ∧ hd c = nI h ∧ ln c = nI l ∧ ∀ k, k < l → b1 (8 * c + (h + k) % 8) = b2 (8 * c + k))
theorem cs_B_at {Z : Nat} {ub : Int32} {cp hd ln b1 b2 : Nat → Int32} (H : cs_B Z ub cp hd ln b1 b2) {c : Nat} (hc : c < 8) : ∃ h l, h < 8 ∧ l ≤ 8 ∧ hd c = nI h ∧ ln c = nI l ∧ ∀ k, k < l → b1 (8 * c + (h + k) % 8) = b2 (8 * c + k) := H.2.2 c hc
theorem cs_B_app {Z : Nat} {ub : Int32} {cp hd ln b1 b2 : Nat → Int32} (H : cs_B Z ub cp hd ln b1 b2) {c h l : Nat} (hc : c < 8) (hh : h < 8) (hl : l < 8) (eh : hd c = nI h) (el : ln c = nI l) (w : Int32) :
    cs_B Z ub cp hd (upd ln c (nI (l + 1))) (upd b1 (8 * c + (h + l) % 8) w) (upd b2 (8 * c + l) w) := by
  refine ⟨H.1, H.2.1, fun e he => ?_⟩
  obtain ⟨h', l', g1, g2, g3, g4, g5⟩ := H.2.2 e he
  by_cases z : e = c
  · subst z
    have q1 : h' = h := cs_inj (by omega) (by omega) (g3.symm.trans eh)
    have q2 : l' = l := cs_inj (by omega) (by omega) (g4.symm.trans el)
    subst q1
    subst q2
    refine ⟨h', l' + 1, g1, by omega, g3, pk_us, fun k hk => ?_⟩
    by_cases y : k = l'
    · subst y; rw [pk_us, pk_us]
    · rw [pk_un (by omega), pk_un (by omega)]
      exact g5 k (by omega)
  · refine ⟨h', l', g1, g2, g3, by rw [pk_un z]; exact g4, fun k hk => ?_⟩
    rw [pk_un (by omega), pk_un (by omega)]
    exact g5 k hk
theorem cs_B_rem {Z : Nat} {ub : Int32} {cp hd ln b1 b2 : Nat → Int32} (H : cs_B Z ub cp hd ln b1 b2) {c h l : Nat} (hc : c < 8) (hh : h < 8) (hl : l + 1 ≤ 8) (eh : hd c = nI h) (el : ln c = nI (l + 1)) :
    cs_B Z ub cp (upd hd c (nI ((h + 1) % 8))) (upd ln c (nI l)) b1 (cs_sh c l 0 b2) ∧ b1 (8 * c + h) = b2 (8 * c) := by
  refine ⟨⟨H.1, H.2.1, fun e he => ?_⟩, ?_⟩
  · obtain ⟨h', l', g1, g2, g3, g4, g5⟩ := H.2.2 e he
    by_cases z : e = c
    · subst z
      have q1 : h' = h := cs_inj (by omega) (by omega) (g3.symm.trans eh)
      have q2 : l' = l + 1 := cs_inj (by omega) (by omega) (g4.symm.trans el)
      subst q1
      subst q2
      refine ⟨(h' + 1) % 8, l, by omega, by omega, pk_us, pk_us, fun k hk => ?_⟩
      rw [cs_sh_at, if_pos (by omega)]
      have := g5 (k + 1) (by omega)
      rw [show ((h' + 1) % 8 + k) % 8 = (h' + (k + 1)) % 8 from by omega]
      exact this
    · refine ⟨h', l', g1, g2, by rw [pk_un z]; exact g3, by rw [pk_un z]; exact g4, fun k hk => ?_⟩
      rw [cs_sh_at, if_neg (by omega)]
      exact g5 k hk
  · obtain ⟨h', l', g1, g2, g3, g4, g5⟩ := H.2.2 c hc
    have q1 : h' = h := cs_inj (by omega) (by omega) (g3.symm.trans eh)
    have q2 : l' = l + 1 := cs_inj (by omega) (by omega) (g4.symm.trans el)
    subst q1
    subst q2
    have := g5 0 (by omega)
    rw [show (h' + 0) % 8 = h' from by omega] at this
    exact this
/-! the results -/
def cs_d1 (s o f r d o' f' r' d' : Int32) : Prop :=
  (s = 3 → o' = o ∧ (o = 1 ∧ f' = f ∧ r' = r ∧ d' = d ∨ o = 2 ∧ f' = f ∧ r = 0 ∧ d = 0 ∨ o = 3 ∧ f = -4 ∧ r = 0 ∧ d = 0)) ∧
  (¬ s = 3 → o = 0 ∧ f = -4 ∧ r = 0 ∧ d = 0)
def cs_D (st o1 f1 r1 d1 o2 f2 r2 d2 : Nat → Int32) : Prop := ∀ p, p < 8 → cs_d1 (st p) (o1 p) (f1 p) (r1 p) (d1 p) (o2 p) (f2 p) (r2 p) (d2 p)
theorem cs_D_done {st o1 f1 r1 d1 o2 f2 r2 d2 : Nat → Int32} (H : cs_D st o1 f1 r1 d1 o2 f2 r2 d2) (q : Nat) {i how v num : Int32}
    (hh : how = 1 ∨ how = 2 ∧ v = 0 ∧ num = 0 ∨ how = 3 ∧ i = -4 ∧ v = 0 ∧ num = 0) :
    cs_D (upd st q 3) (upd o1 q how) (upd f1 q i) (upd r1 q v) (upd d1 q num) (upd o2 q how) (upd f2 q i) (upd r2 q v) (upd d2 q num) := by
  intro p hp
  by_cases z : p = q
  · subst z
    rw [pk_us, pk_us, pk_us, pk_us, pk_us, pk_us, pk_us, pk_us, pk_us]
    refine ⟨fun _ => ⟨rfl, ?_⟩, fun h => absurd rfl h⟩
    rcases hh with h | ⟨h1, h2, h3⟩ | ⟨h1, h2, h3, h4⟩
    · exact Or.inl ⟨h, rfl, rfl, rfl⟩
    · exact Or.inr (Or.inl ⟨h1, rfl, h2, h3⟩)
    · exact Or.inr (Or.inr ⟨h1, h2, h3, h4⟩)
  · rw [pk_un z, pk_un z, pk_un z, pk_un z, pk_un z, pk_un z, pk_un z, pk_un z, pk_un z]
    exact H p hp
/-- a process that isn't done before and after: its status may change -/
theorem cs_D_st {st o1 f1 r1 d1 o2 f2 r2 d2 : Nat → Int32} (H : cs_D st o1 f1 r1 d1 o2 f2 r2 d2) (q : Nat) {s : Int32} (h1 : ¬ st q = 3) (h2 : ¬ s = 3) : cs_D (upd st q s) o1 f1 r1 d1 o2 f2 r2 d2 := by
  intro p hp
  by_cases z : p = q
  · subst z
    rw [pk_us]
    exact ⟨fun h => absurd h h2, fun _ => (H p hp).2 h1⟩
  · rw [pk_un z]; exact H p hp
/-- a process whose results are cleared -/
theorem cs_D_clr {st o1 f1 r1 d1 o2 f2 r2 d2 : Nat → Int32} (H : cs_D st o1 f1 r1 d1 o2 f2 r2 d2) (q : Nat) {s : Int32} (h2 : ¬ s = 3) : cs_D (upd st q s) (upd o1 q 0) (upd f1 q (-4)) (upd r1 q 0) (upd d1 q 0) o2 f2 r2 d2 := by
  intro p hp
  by_cases z : p = q
  · subst z
    rw [pk_us, pk_us, pk_us, pk_us, pk_us]
    exact ⟨fun h => absurd h h2, fun _ => ⟨rfl, rfl, rfl, rfl⟩⟩
  · rw [pk_un z, pk_un z, pk_un z, pk_un z, pk_un z]; exact H p hp
/-! lists, line, statuses -/
def cs_K (P C L : Nat) (st cn kd ch fs li : Nat → Int32) : Prop :=
  2 ≤ P ∧ P ≤ 8 ∧ 1 ≤ C ∧ C ≤ 8 ∧ L ≤ 8 ∧ (∀ p, ∃ n, n ≤ 4 ∧ cn p = nI n) ∧ (∀ j, kd j = 0 ∨ kd j = 1) ∧ (∀ j, ∃ m, m < C ∧ ch j = nI m) ∧
  (∀ p, st p = 1 → ∃ f n, f < n ∧ n ≤ 4 ∧ fs p = nI f ∧ cn p = nI n) ∧
  (∀ k, k < L → ∃ q, q < P ∧ li k = nI q ∧ st q = 2) ∧ (∀ j k, j < k → k < L → ¬ li j = li k)
section
variable {P C L : Nat} {st cn kd ch fs li : Nat → Int32}
theorem cs_K_P (H : cs_K P C L st cn kd ch fs li) : P ≤ 8 := H.2.1
theorem cs_K_C (H : cs_K P C L st cn kd ch fs li) : C ≤ 8 := H.2.2.2.1
theorem cs_K_L (H : cs_K P C L st cn kd ch fs li) : L ≤ 8 := H.2.2.2.2.1
theorem cs_K_cn (H : cs_K P C L st cn kd ch fs li) : ∀ p, ∃ n, n ≤ 4 ∧ cn p = nI n := H.2.2.2.2.2.1
theorem cs_K_kd (H : cs_K P C L st cn kd ch fs li) : ∀ j, kd j = 0 ∨ kd j = 1 := H.2.2.2.2.2.2.1
theorem cs_K_ch (H : cs_K P C L st cn kd ch fs li) : ∀ j, ∃ m, m < C ∧ ch j = nI m := H.2.2.2.2.2.2.2.1
theorem cs_K_fs (H : cs_K P C L st cn kd ch fs li) : ∀ p, st p = 1 → ∃ f n, f < n ∧ n ≤ 4 ∧ fs p = nI f ∧ cn p = nI n := H.2.2.2.2.2.2.2.2.1
theorem cs_K_li (H : cs_K P C L st cn kd ch fs li) : ∀ k, k < L → ∃ q, q < P ∧ li k = nI q ∧ st q = 2 := H.2.2.2.2.2.2.2.2.2.1
theorem cs_K_ds (H : cs_K P C L st cn kd ch fs li) : ∀ j k, j < k → k < L → ¬ li j = li k := H.2.2.2.2.2.2.2.2.2.2
theorem cs_K_cc (H : cs_K P C L st cn kd ch fs li) (p : Nat) : (cn p).toNatClampNeg ≤ 4 := by
  obtain ⟨n, h1, h2⟩ := cs_K_cn H p
  rw [h2, cs_cl (by omega)]; exact h1
/-- the line without q, statuses other than q's kept -/
theorem cs_K_lv (H : cs_K P C L st cn kd ch fs li) (q : Nat) (hq : q < 64) {st' : Nat → Int32} (hs : ∀ p, p ≠ q → st' p = st p) (h1 : st' q = 1 → st q = 1) :
    cs_K P C (cs_lv (nI q) L 0 0 li).1 st' cn kd ch fs (cs_lv (nI q) L 0 0 li).2 := by
  have G := cs_lv_good (nI q) (fun x => ∃ q', q' < P ∧ x = nI q' ∧ st q' = 2) L 0 0 li (Nat.le_refl _) (fun i hi => absurd hi (by omega))
    (fun i _ hi => cs_K_li H i (by omega)) (fun i j hij hj _ => cs_K_ds H i j hij (by omega))
  have hL := cs_K_L H
  have hP := cs_K_P H
  refine ⟨H.1, H.2.1, H.2.2.1, H.2.2.2.1, by omega, cs_K_cn H, cs_K_kd H, cs_K_ch H, fun p hp => ?_, fun k hk => ?_, G.2.2⟩
  · by_cases z : p = q
    · subst z; exact cs_K_fs H p (h1 hp)
    · rw [hs p z] at hp; exact cs_K_fs H p hp
  · obtain ⟨⟨q', g1, g2, g3⟩, g4⟩ := G.2.1 k hk
    refine ⟨q', g1, g2, ?_⟩
    have z : q' ≠ q := fun e => g4 (by rw [g2, e])
    rw [hs q' z]; exact g3
theorem cs_K_done (H : cs_K P C L st cn kd ch fs li) (q : Nat) (hq : q < 64) : cs_K P C (cs_lv (nI q) L 0 0 li).1 (upd st q 3) cn kd ch fs (cs_lv (nI q) L 0 0 li).2 :=
  cs_K_lv H q hq (fun p hp => pk_un hp) (fun h => absurd h (by rw [pk_us]; decide))
/-- a process that isn't parked isn't in the line -/
theorem cs_K_out (H : cs_K P C L st cn kd ch fs li) {p : Nat} (hp : p < 64) (hs : ¬ st p = 2) : ∀ i, i < L → ¬ li i = nI p := by
  intro i hi e
  obtain ⟨q, h1, h2, h3⟩ := cs_K_li H i hi
  have hP := cs_K_P H
  have : q = p := cs_inj (by omega) hp (h2.symm.trans e)
  subst this
  exact hs h3
theorem cs_K_id (H : cs_K P C L st cn kd ch fs li) {p : Nat} (hp : p < 64) (hs : ¬ st p = 2) : cs_lv (nI p) L 0 0 li = (L, li) := by
  have := cs_lv_id (nI p) L 0 li (fun i _ hi => cs_K_out H hp hs i (by omega))
  rw [this, Nat.zero_add]
theorem cs_K_room (H : cs_K P C L st cn kd ch fs li) {p : Nat} (hp : p < P) (hs : ¬ st p = 2) : L < 8 := by
  have hP := cs_K_P H
  have := cs_pig 8 (L + 1) (fun i => if i < L then (li i).toNatClampNeg else p)
    (fun i hi => by
      by_cases z : i < L
      · rw [if_pos z]
        obtain ⟨q, h1, h2, h3⟩ := cs_K_li H i z
        rw [h2, cs_cl (by omega)]; omega
      · rw [if_neg z]; omega)
    (fun i j hij hj => by
      obtain ⟨q, h1, h2, h3⟩ := cs_K_li H i (by omega)
      rw [if_pos (by omega), h2, cs_cl (by omega)]
      by_cases z : j < L
      · rw [if_pos z]
        obtain ⟨q', g1, g2, g3⟩ := cs_K_li H j z
        rw [g2, cs_cl (by omega)]
        intro e
        exact cs_K_ds H i j hij z (by rw [h2, g2, e])
      · rw [if_neg z]
        intro e
        subst e
        exact hs h3)
  omega
theorem cs_K_park (H : cs_K P C L st cn kd ch fs li) {p : Nat} (hp : p < P) (hs : ¬ st p = 2) : cs_K P C (L + 1) (upd st p 2) cn kd ch fs (upd li L (nI p)) := by
  have hr := cs_K_room H hp hs
  have hP := cs_K_P H
  refine ⟨H.1, H.2.1, H.2.2.1, H.2.2.2.1, by omega, cs_K_cn H, cs_K_kd H, cs_K_ch H, fun q hq => ?_, fun k hk => ?_, fun j k hjk hk => ?_⟩
  · by_cases z : q = p
    · subst z; rw [pk_us] at hq; exact absurd hq (by decide)
    · rw [pk_un z] at hq; exact cs_K_fs H q hq
  · by_cases z : k = L
    · subst z; exact ⟨p, hp, pk_us, pk_us⟩
    · obtain ⟨q, h1, h2, h3⟩ := cs_K_li H k (by omega)
      refine ⟨q, h1, by rw [pk_un z]; exact h2, ?_⟩
      rw [pk_un (fun e => hs (by rw [← e]; exact h3))]; exact h3
  · rw [pk_un (show j ≠ L by omega)]
    by_cases z : k = L
    · subst z; rw [pk_us]; exact cs_K_out H (by omega) hs j hjk
    · rw [pk_un z]; exact cs_K_ds H j k hjk (by omega)
/-- a wait's process is another one, in the line -/
theorem cs_K_fw (H : cs_K P C L st cn kd ch fs li) (c kind kk : Int32) : cs_fw kk (cs_ws ch kd c kind cn li L 0) 0 = -4 ∨
    ∃ a, a < 32 ∧ a / 4 < P ∧ st (a / 4) = 2 ∧ cs_fw kk (cs_ws ch kd c kind cn li L 0) 0 = nI a := by
  rcases cs_fw_mem (kk := kk) (cs_ws ch kd c kind cn li L 0) 0 with e | ⟨a, h1, h2⟩
  · exact Or.inl e
  · obtain ⟨m, j, _, g2, g3, g4⟩ := cs_ws_mem _ _ h1
    obtain ⟨q, k1, k2, k3⟩ := cs_K_li H m (by omega)
    have hP := cs_K_P H
    have hc := cs_K_cc H (li m).toNatClampNeg
    rw [k2, cs_cl (by omega)] at g4
    have e : a / 4 = q := by omega
    refine Or.inr ⟨a, by omega, by omega, by rw [e]; exact k3, h2⟩
theorem cs_K_ws (H : cs_K P C L st cn kd ch fs li) (c kind : Int32) : (cs_ws ch kd c kind cn li L 0).length ≤ 32 ∧ ∀ a, a ∈ cs_ws ch kd c kind cn li L 0 → a < 32 := by
  have hL := cs_K_L H
  refine ⟨?_, fun a ha => ?_⟩
  · have := cs_ws_len (ch := ch) (kd := kd) (c := c) (kind := kind) (li := li) (cs_K_cc H) L 0
    omega
  · obtain ⟨m, j, _, g2, g3, g4⟩ := cs_ws_mem _ _ ha
    obtain ⟨q, k1, k2, k3⟩ := cs_K_li H m (by omega)
    have hP := cs_K_P H
    have hc := cs_K_cc H (li m).toNatClampNeg
    rw [k2, cs_cl (by omega)] at g4
    omega
end
end
section
section
variable {P C L Z : Nat} {ub : Int32} {st o1 f1 r1 d1 rm fs cn kd ch vl cp ow cl se re hd ln b1 li o2 f2 r2 d2 b2 : Nat → Int32}
/-! ranges -/
theorem cs_xP0 {post : Int32 → Prop} {x : Int32} (h : x < 0 ∨ nI P ≤ x) (g : post 0) : wpX_isProcess post (nI P, nI C, nI L, st, o1, f1, r1, d1, rm, fs, cn, kd, ch, vl, cp, ow, cl, se, re, hd, ln, b1, li) x := by
  unfold wpX_isProcess
  rcases h with h | h
  · exact br_t h g
  · exact br_c (fun _ => g) (fun _ => br_t h g)
theorem cs_xP1 {post : Int32 → Prop} {p : Nat} (h : p < P) (hP : P ≤ 8) (g : post 1) : wpX_isProcess post (nI P, nI C, nI L, st, o1, f1, r1, d1, rm, fs, cn, kd, ch, vl, cp, ow, cl, se, re, hd, ln, b1, li) (nI p) := by
  unfold wpX_isProcess
  exact br_f (cs_pos (by omega)) (br_f (nI_ge h (by omega)) g)
theorem cs_xC0 {post : Int32 → Prop} {x : Int32} (h : x < 0 ∨ nI C ≤ x) (g : post 0) : wpX_isChannel post (nI P, nI C, nI L, st, o1, f1, r1, d1, rm, fs, cn, kd, ch, vl, cp, ow, cl, se, re, hd, ln, b1, li) x := by
  unfold wpX_isChannel
  rcases h with h | h
  · exact br_t h g
  · exact br_c (fun _ => g) (fun _ => br_t h g)
theorem cs_xC1 {post : Int32 → Prop} {p : Nat} (h : p < C) (hC : C ≤ 8) (g : post 1) : wpX_isChannel post (nI P, nI C, nI L, st, o1, f1, r1, d1, rm, fs, cn, kd, ch, vl, cp, ow, cl, se, re, hd, ln, b1, li) (nI p) := by
  unfold wpX_isChannel
  exact br_f (cs_pos (by omega)) (br_f (nI_ge h (by omega)) g)
/-! the line -/
theorem cs_xlv {post : SX → Prop} {q : Int32} (hL : L ≤ 8) : ∀ (d kp k : Nat) (a : Nat → Int32), k + d = L → kp ≤ k →
    post (nI P, nI C, nI (cs_lv q d kp k a).1, st, o1, f1, r1, d1, rm, fs, cn, kd, ch, vl, cp, ow, cl, se, re, hd, ln, b1, (cs_lv q d kp k a).2) → wX_leaveLine_4 post q (nI P) (nI C) (nI L) (d + 1) (nI kp) (nI k) st o1 f1 r1 d1 rm fs cn kd ch vl cp ow cl se re hd ln b1 a := by
  intro d
  induction d with
  | zero =>
    intro kp k a hk hkp h
    exact br_t (nI_le (by omega) (by omega)) h
  | succ d ih =>
    intro kp k a hk hkp h
    refine br_f (nI_ge (by omega) (by omega)) ⟨cs_in8 (by omega), ?_⟩
    rw [cs_cl (show k < 64 by omega), cs_cl (show kp < 64 by omega)]
    by_cases z : a k = q
    · rw [cs_lv_t z] at h
      exact br_t z (nm_r (nI_1 k) (ih kp (k + 1) a (by omega) (by omega) h))
    · rw [cs_lv_f z] at h
      exact br_f z ⟨cs_in8 (by omega), cs_in8 (by omega), nm_e (nm_r (nI_1 kp) (nm_r (nI_1 k) (ih (kp + 1) (k + 1) _ (by omega) (by omega) h)))⟩
theorem cs_xleave {post : SX → Prop} {q : Int32} (hL : L ≤ 8) (h : post (nI P, nI C, nI (cs_lv q L 0 0 li).1, st, o1, f1, r1, d1, rm, fs, cn, kd, ch, vl, cp, ow, cl, se, re, hd, ln, b1, (cs_lv q L 0 0 li).2)) : wpX_leaveLine post (nI P, nI C, nI L, st, o1, f1, r1, d1, rm, fs, cn, kd, ch, vl, cp, ow, cl, se, re, hd, ln, b1, li) q :=
  Exists.intro (L + 1) (cs_xlv hL L 0 0 li (by omega) (by omega) h)
theorem cs_xcomp {post : SX → Prop} {q : Nat} {i how v num : Int32} (hL : L ≤ 8) (hq : q < 8)
    (h : post (nI P, nI C, nI (cs_lv (nI q) L 0 0 li).1, upd st q 3, upd o1 q how, upd f1 q i, upd r1 q v, upd d1 q num, rm, fs, cn, kd, ch, vl, cp, ow, cl, se, re, hd, ln, b1, (cs_lv (nI q) L 0 0 li).2)) :
    wpX_complete post (nI P, nI C, nI L, st, o1, f1, r1, d1, rm, fs, cn, kd, ch, vl, cp, ow, cl, se, re, hd, ln, b1, li) (nI q) i how v num := by
  unfold wpX_complete
  refine cs_xleave hL ?_
  rw [cs_cl (show q < 64 by omega)]
  exact ⟨cs_in8 hq, nm_e ⟨cs_in8 hq, nm_e ⟨cs_in8 hq, nm_e ⟨cs_in8 hq, nm_e ⟨cs_in8 hq, nm_e h⟩⟩⟩⟩⟩
theorem cs_xpass {post : SX → Prop} {a : Nat} {v num : Int32} (hL : L ≤ 8) (ha : a < 32)
    (h : post (nI P, nI C, nI (cs_lv (nI (a / 4)) L 0 0 li).1, upd st (a / 4) 3, upd o1 (a / 4) 1, upd f1 (a / 4) (nI (a % 4)), upd r1 (a / 4) v, upd d1 (a / 4) num, rm, fs, cn, kd, ch, vl, cp, ow, cl, se, re, hd, ln, b1, (cs_lv (nI (a / 4)) L 0 0 li).2)) :
    wpX_passWait post (nI P, nI C, nI L, st, o1, f1, r1, d1, rm, fs, cn, kd, ch, vl, cp, ow, cl, se, re, hd, ln, b1, li) (nI a) v num := by
  unfold wpX_passWait
  dsimp only
  rw [cs_s2 (by omega), cs_a3 (by omega)]
  exact cs_xcomp hL (by omega) h
/-! the owners -/
theorem cs_xrl {post : SX → Prop} {p : Int32} (hC : C ≤ 8) : ∀ (d k : Nat) (a : Nat → Int32), k + d = C →
    post (nI P, nI C, nI L, st, o1, f1, r1, d1, rm, fs, cn, kd, ch, vl, cp, cs_rl p d k a, cl, se, re, hd, ln, b1, li) → wX_releaseAll_2 post p (nI P) (nI C) (nI L) (d + 1) (nI k) st o1 f1 r1 d1 rm fs cn kd ch vl cp a cl se re hd ln b1 li := by
  intro d
  induction d with
  | zero =>
    intro k a hk h
    exact br_t (nI_le (by omega) (by omega)) h
  | succ d ih =>
    intro k a hk h
    refine br_f (nI_ge (by omega) (by omega)) ⟨cs_in8 (by omega), ?_⟩
    rw [cs_cl (show k < 64 by omega)]
    by_cases z : a k = p
    · rw [cs_rl_t z] at h
      exact br_t z ⟨cs_in8 (by omega), nm_e (nm_r (nI_1 k) (ih (k + 1) _ (by omega) h))⟩
    · rw [cs_rl_f z] at h
      exact br_f z (nm_r (nI_1 k) (ih (k + 1) a (by omega) h))
theorem cs_xrel {post : SX → Prop} {p : Int32} (hC : C ≤ 8) (h : post (nI P, nI C, nI L, st, o1, f1, r1, d1, rm, fs, cn, kd, ch, vl, cp, cs_rl p C 0 ow, cl, se, re, hd, ln, b1, li)) : wpX_releaseAll post (nI P, nI C, nI L, st, o1, f1, r1, d1, rm, fs, cn, kd, ch, vl, cp, ow, cl, se, re, hd, ln, b1, li) p :=
  Exists.intro (C + 1) (cs_xrl hC C 0 ow (by omega) h)
theorem cs_xclr {post : SX → Prop} {p : Nat} (hp : p < 8) (h : post (nI P, nI C, nI L, st, upd o1 p 0, upd f1 p (-4), upd r1 p 0, upd d1 p 0, rm, fs, cn, kd, ch, vl, cp, ow, cl, se, re, hd, ln, b1, li)) : wpX_clearResult post (nI P, nI C, nI L, st, o1, f1, r1, d1, rm, fs, cn, kd, ch, vl, cp, ow, cl, se, re, hd, ln, b1, li) (nI p) := by
  unfold wpX_clearResult
  dsimp only
  rw [cs_cl (show p < 64 by omega)]
  exact ⟨cs_in8 hp, nm_e ⟨cs_in8 hp, nm_e ⟨cs_in8 hp, nm_e ⟨cs_in8 hp, nm_e h⟩⟩⟩⟩
/-! the waits -/
theorem cs_xmatch {post : Int32 → Prop} {j : Nat} {c kind : Int32} (hj : j < 32) (h1 : ch j = c ∧ kd j = kind → post 1) (h0 : ¬ (ch j = c ∧ kd j = kind) → post 0) : wpX_matches post (nI P, nI C, nI L, st, o1, f1, r1, d1, rm, fs, cn, kd, ch, vl, cp, ow, cl, se, re, hd, ln, b1, li) (nI j) c kind := by
  unfold wpX_matches
  dsimp only
  rw [cs_cl (show j < 64 by omega)]
  refine ⟨cs_in32 hj, br_c (fun a => ⟨cs_in32 hj, br_c (fun b => h1 ⟨a, b⟩) (fun b => h0 (fun z => b z.2))⟩) (fun a => h0 (fun z => a z.1))⟩
theorem cs_xf2 {post : Int32 → Prop} {J : Int32 → Int32 → Prop} {c kind kk x5 : Int32} {q n : Nat} (hq : q < 8) (hn : n ≤ 4) (en : cn q = nI n) : ∀ (d i : Nat) (s : Int32), i + d = n →
    cs_wk post (fun s' => J s' (x5 + 1)) kk (cs_w1 ch kd c kind q d i) s → wX_findWait_27 post J c kind kk x5 (nI q) (nI P) (nI C) (nI L) st o1 f1 r1 d1 rm fs cn kd ch vl cp ow cl se re hd ln b1 li (d + 1) s (nI i) := by
  intro d
  induction d with
  | zero =>
    intro i s hi h
    refine ⟨cs_in8 hq, ?_⟩
    rw [cs_cl (show q < 64 by omega), en]
    exact br_t (nI_le (by omega) (by omega)) (nm_e h)
  | succ d ih =>
    intro i s hi h
    refine ⟨cs_in8 hq, ?_⟩
    rw [cs_cl (show q < 64 by omega), en, cs_m4]
    refine br_f (nI_ge (by omega) (by omega)) (cs_xmatch (by omega) (fun z => ?_) (fun z => ?_))
    · rw [cs_w1_t z.1 z.2] at h
      exact br_f (by decide) (br_c h.1 (fun y => nm_e (nm_r (nI_1 i) (ih (i + 1) (s + 1) (by omega) (h.2 y)))))
    · rw [cs_w1_f z] at h
      exact br_t rfl (nm_r (nI_1 i) (ih (i + 1) s (by omega) h))
theorem cs_xf1 {post : Int32 → Prop} {c kind kk : Int32} (hL : L ≤ 8) (hcn : ∀ p, ∃ n, n ≤ 4 ∧ cn p = nI n) (hli : ∀ k, k < L → ∃ q, q < 8 ∧ li k = nI q) : ∀ (d k : Nat) (s : Int32), k + d = L →
    cs_wk post (fun _ => post (-4)) kk (cs_ws ch kd c kind cn li d k) s → wX_findWait_6 post c kind kk (nI P) (nI C) (nI L) st o1 f1 r1 d1 rm fs cn kd ch vl cp ow cl se re hd ln b1 li (d + 1) s (nI k) := by
  intro d
  induction d with
  | zero =>
    intro k s hk h
    exact br_t (nI_le (by omega) (by omega)) h
  | succ d ih =>
    intro k s hk h
    obtain ⟨q, hq, eq⟩ := hli k (by omega)
    obtain ⟨n, hn, en⟩ := hcn q
    rw [cs_ws_s (q := q) (n := n) (by rw [eq, cs_cl (by omega)]) (by rw [en, cs_cl (by omega)])] at h
    refine br_f (nI_ge (by omega) (by omega)) ⟨cs_in8 (by omega), ?_⟩
    rw [cs_cl (show k < 64 by omega), eq]
    refine nm_e ⟨n + 1, cs_xf2 hq hn en n 0 s (by omega) ?_⟩
    rw [nI_1]
    have h' := cs_wk_app _ _ _ h
    exact cs_wk_mono (fun s' g => ih (k + 1) s' (by omega) g) _ _ h'
theorem cs_xfind {post : Int32 → Prop} {c kind kk : Int32} (hK : cs_K P C L st cn kd ch fs li) (h : post (cs_fw kk (cs_ws ch kd c kind cn li L 0) 0)) : wpX_findWait post (nI P, nI C, nI L, st, o1, f1, r1, d1, rm, fs, cn, kd, ch, vl, cp, ow, cl, se, re, hd, ln, b1, li) c kind kk :=
  Exists.intro (L + 1) (cs_xf1 (cs_K_L hK) (cs_K_cn hK) (fun k hk => by
    obtain ⟨q, h1, h2, _⟩ := cs_K_li hK k hk
    have := cs_K_P hK
    exact ⟨q, by omega, h2⟩) L 0 0 (by omega) (cs_wk_fw _ _ h))
theorem cs_xc2 {post : Int32 → Prop} {J : Int32 → Int32 → Prop} {c kind x4 : Int32} {q n : Nat} (hq : q < 8) (hn : n ≤ 4) (en : cn q = nI n) : ∀ (d i s : Nat), i + d = n →
    J (nI (s + (cs_w1 ch kd c kind q d i).length)) (x4 + 1) → wX_countWaits_26 post J c kind x4 (nI q) (nI P) (nI C) (nI L) st o1 f1 r1 d1 rm fs cn kd ch vl cp ow cl se re hd ln b1 li (d + 1) (nI s) (nI i) := by
  intro d
  induction d with
  | zero =>
    intro i s hi h
    refine ⟨cs_in8 hq, ?_⟩
    rw [cs_cl (show q < 64 by omega), en]
    exact br_t (nI_le (by omega) (by omega)) (nm_e h)
  | succ d ih =>
    intro i s hi h
    refine ⟨cs_in8 hq, ?_⟩
    rw [cs_cl (show q < 64 by omega), en, cs_m4]
    refine br_f (nI_ge (by omega) (by omega)) (cs_xmatch (by omega) (fun z => ?_) (fun z => ?_))
    · rw [cs_w1_t z.1 z.2, List.length_cons, show ∀ t : Nat, s + (t + 1) = s + 1 + t from fun t => by omega] at h
      exact br_f (by decide) (nm_r (nI_1 s) (nm_r (nI_1 i) (ih (i + 1) (s + 1) (by omega) h)))
    · rw [cs_w1_f z] at h
      exact br_t rfl (nm_r (nI_1 i) (ih (i + 1) s (by omega) h))
theorem cs_xc1 {post : Int32 → Prop} {c kind : Int32} (hL : L ≤ 8) (hcn : ∀ p, ∃ n, n ≤ 4 ∧ cn p = nI n) (hli : ∀ k, k < L → ∃ q, q < 8 ∧ li k = nI q) : ∀ (d k s : Nat), k + d = L →
    post (nI (s + (cs_ws ch kd c kind cn li d k).length)) → wX_countWaits_5 post c kind (nI P) (nI C) (nI L) st o1 f1 r1 d1 rm fs cn kd ch vl cp ow cl se re hd ln b1 li (d + 1) (nI s) (nI k) := by
  intro d
  induction d with
  | zero =>
    intro k s hk h
    exact br_t (nI_le (by omega) (by omega)) h
  | succ d ih =>
    intro k s hk h
    obtain ⟨q, hq, eq⟩ := hli k (by omega)
    obtain ⟨n, hn, en⟩ := hcn q
    rw [cs_ws_s (q := q) (n := n) (by rw [eq, cs_cl (by omega)]) (by rw [en, cs_cl (by omega)]), List.length_append, ← Nat.add_assoc] at h
    refine br_f (nI_ge (by omega) (by omega)) ⟨cs_in8 (by omega), ?_⟩
    rw [cs_cl (show k < 64 by omega), eq]
    refine nm_e ⟨n + 1, cs_xc2 hq hn en n 0 s (by omega) ?_⟩
    rw [nI_1]
    exact ih (k + 1) _ (by omega) h
theorem cs_xcount {post : Int32 → Prop} {c kind : Int32} (hK : cs_K P C L st cn kd ch fs li) (h : post (nI (cs_ws ch kd c kind cn li L 0).length)) : wpX_countWaits post (nI P, nI C, nI L, st, o1, f1, r1, d1, rm, fs, cn, kd, ch, vl, cp, ow, cl, se, re, hd, ln, b1, li) c kind :=
  Exists.intro (L + 1) (cs_xc1 (cs_K_L hK) (cs_K_cn hK) (fun k hk => by
    obtain ⟨q, h1, h2, _⟩ := cs_K_li hK k hk
    have := cs_K_P hK
    exact ⟨q, by omega, h2⟩) L 0 0 (by omega) (by rw [Nat.zero_add]; exact h))
/-! cases -/
theorem cs_xl1 {post : Int32 → Prop} {c kind : Int32} {p n : Nat} (hp : p < 8) (hn : n ≤ 4) (en : cn p = nI n) : ∀ (d i : Nat), i + d = n →
    post (cs_lc ch kd c kind p d i) → wX_lowestCase_3 post (nI p) c kind (nI P) (nI C) (nI L) st o1 f1 r1 d1 rm fs cn kd ch vl cp ow cl se re hd ln b1 li (d + 1) (nI i) := by
  intro d
  induction d with
  | zero =>
    intro i hi h
    refine ⟨cs_in8 hp, ?_⟩
    rw [cs_cl (show p < 64 by omega), en]
    exact br_t (nI_le (by omega) (by omega)) h
  | succ d ih =>
    intro i hi h
    refine ⟨cs_in8 hp, ?_⟩
    rw [cs_cl (show p < 64 by omega), en, cs_m4]
    refine br_f (nI_ge (by omega) (by omega)) (cs_xmatch (by omega) (fun z => ?_) (fun z => ?_))
    · rw [cs_lc_t z.1 z.2] at h
      exact br_f (by decide) h
    · rw [cs_lc_f z] at h
      exact br_t rfl (nm_r (nI_1 i) (ih (i + 1) (by omega) h))
theorem cs_xlow {post : Int32 → Prop} {c kind : Int32} {p n : Nat} (hp : p < 8) (hn : n ≤ 4) (en : cn p = nI n) (h : post (cs_lc ch kd c kind p n 0)) : wpX_lowestCase post (nI P, nI C, nI L, st, o1, f1, r1, d1, rm, fs, cn, kd, ch, vl, cp, ow, cl, se, re, hd, ln, b1, li) (nI p) c kind :=
  Exists.intro (n + 1) (cs_xl1 hp hn en n 0 (by omega) h)
theorem cs_xm1 {post : Int32 → Prop} {p n : Nat} (hp : p < 8) (hC : C ≤ 8) (hn : n ≤ 4) (en : cn p = nI n) (hch : ∀ j, ∃ m, m < C ∧ ch j = nI m) (H : ∀ m, cs_ms ch ow p C n m → post m) : ∀ (d i : Nat) (m : Int32), i + d = n →
    cs_ms ch ow p C i m → wX_nextMissing_5 post (nI p) (nI P) (nI C) (nI L) st o1 f1 r1 d1 rm fs cn kd ch vl cp ow cl se re hd ln b1 li (d + 1) m (nI i) := by
  intro d
  induction d with
  | zero =>
    intro i m hi h
    refine ⟨cs_in8 hp, ?_⟩
    rw [cs_cl (show p < 64 by omega), en]
    have e : i = n := by omega
    subst e
    exact br_t (nI_le (by omega) (by omega)) (H m h)
  | succ d ih =>
    intro i m hi h
    obtain ⟨b, hb, eb⟩ := hch (4 * p + i)
    refine ⟨cs_in8 hp, ?_⟩
    rw [cs_cl (show p < 64 by omega), en, cs_m4, cs_cl (show 4 * p + i < 64 by omega), eb]
    refine br_f (nI_ge (by omega) (by omega)) ⟨cs_in32 (by omega), nm_e ⟨cs_in8 (by omega), ?_⟩⟩
    rw [cs_cl (show b < 64 by omega)]
    refine br_c (fun z => nm_r (nI_1 i) (ih (i + 1) m (by omega) (cs_ms_own (by omega) eb z h))) (fun z => br_c (fun y => ?_) (fun y => br_c (fun x => ?_) (fun x => ?_)))
    · subst y
      exact nm_r (nI_1 i) (ih (i + 1) _ (by omega) (cs_ms_first (by omega) hb hC eb z h))
    · exact nm_r (nI_1 i) (ih (i + 1) _ (by omega) (cs_ms_keep (by omega) hC eb y x h))
    · exact nm_r (nI_1 i) (ih (i + 1) _ (by omega) (cs_ms_less (by omega) hb hC eb z y x h))
theorem cs_xmiss {post : Int32 → Prop} {p n : Nat} (hp : p < 8) (hC : C ≤ 8) (hn : n ≤ 4) (en : cn p = nI n) (hch : ∀ j, ∃ m, m < C ∧ ch j = nI m) (H : ∀ m, cs_ms ch ow p C n m → post m) : wpX_nextMissing post (nI P, nI C, nI L, st, o1, f1, r1, d1, rm, fs, cn, kd, ch, vl, cp, ow, cl, se, re, hd, ln, b1, li) (nI p) :=
  Exists.intro (n + 1) (cs_xm1 hp hC hn en hch H n 0 (-4) (by omega) cs_ms_0)
theorem cs_xd1 {post : Int32 → Prop} {p n : Nat} (hp : p < 8) (hC : C ≤ 8) (hn : n ≤ 4) (en : cn p = nI n) (hch : ∀ j, ∃ m, m < C ∧ ch j = nI m)
    (H : post (nI (cs_ct (fun c => cs_nb ch (nI c) p n) C))) : ∀ (d i s : Nat), i + d = n → s < 256 → (∀ c, c < 8 → s.testBit c = cs_nb ch (nI c) p i) →
    wX_distinctChannels_7 post (nI p) (nI P) (nI C) (nI L) st o1 f1 r1 d1 rm fs cn kd ch vl cp ow cl se re hd ln b1 li (d + 1) (nI s) (nI (cs_ct (fun c => cs_nb ch (nI c) p i) C)) (nI i) := by
  intro d
  induction d with
  | zero =>
    intro i s hi hs h
    refine ⟨cs_in8 hp, ?_⟩
    rw [cs_cl (show p < 64 by omega), en]
    have e : i = n := by omega
    subst e
    exact br_t (nI_le (by omega) (by omega)) H
  | succ d ih =>
    intro i s hi hs h
    obtain ⟨b, hb, eb⟩ := hch (4 * p + i)
    have hb8 : b < 8 := by omega
    have hnb : ∀ c, c < 8 → cs_nb ch (nI c) p (i + 1) = (cs_nb ch (nI c) p i || decide (b = c)) := by
      intro c hc
      rw [cs_nb, eb]
      congr 1
      exact decide_eq_decide.mpr (nI_eq (by omega) (by omega))
    refine ⟨cs_in8 hp, ?_⟩
    rw [cs_cl (show p < 64 by omega), en, cs_m4, cs_cl (show 4 * p + i < 64 by omega), eb]
    refine br_f (nI_ge (by omega) (by omega)) ⟨cs_in32 (by omega), nm_e ?_⟩
    cases z : s.testBit b with
    | false =>
      refine br_t (cs_bit0 hb8 hs z) (nm_r (cs_bits b hb8 s hs).2 (nm_r (nI_1 _) (nm_r (nI_1 i) ?_)))
      have q := ih (i + 1) (s ||| 2 ^ b) (by omega) (cs_bitU hb8 hs) (fun c hc => by rw [cs_bitT, hnb c hc, h c hc])
      have e : cs_ct (fun c => cs_nb ch (nI c) p (i + 1)) C = cs_ct (fun c => cs_nb ch (nI c) p i) C + 1 := by
        rw [← cs_ct_new (f := fun c => cs_nb ch (nI c) p i) (g := fun c => cs_nb ch (nI c) p i || decide (b = c)) (b := b)
          (by show cs_nb ch (nI b) p i = false; rw [← h b hb8]; exact z) (by show (cs_nb ch (nI b) p i || decide (b = b)) = true; rw [decide_eq_true rfl, Bool.or_true])
          (fun c hc => by show (cs_nb ch (nI c) p i || decide (b = c)) = cs_nb ch (nI c) p i; rw [decide_eq_false (fun e => hc e.symm), Bool.or_false]) C hb]
        exact cs_ct_eq C (fun c hc => hnb c (by omega))
      rw [e] at q
      exact q
    | true =>
      refine br_f (cs_bit1 hb8 hs z) (nm_r (nI_1 i) ?_)
      have hq : ∀ c, c < 8 → cs_nb ch (nI c) p (i + 1) = cs_nb ch (nI c) p i := by
        intro c hc
        rw [hnb c hc]
        by_cases y : b = c
        · subst y
          rw [← h b hc, z, Bool.true_or]
        · rw [decide_eq_false y, Bool.or_false]
      have q := ih (i + 1) s (by omega) hs (fun c hc => by rw [hq c hc, h c hc])
      have e : cs_ct (fun c => cs_nb ch (nI c) p (i + 1)) C = cs_ct (fun c => cs_nb ch (nI c) p i) C := cs_ct_eq C (fun c hc => hq c (by omega))
      rw [e] at q
      exact q
theorem cs_xdist {post : Int32 → Prop} {p n : Nat} (hp : p < 8) (hC : C ≤ 8) (hn : n ≤ 4) (en : cn p = nI n) (hch : ∀ j, ∃ m, m < C ∧ ch j = nI m)
    (H : post (nI (cs_ct (fun c => cs_nb ch (nI c) p n) C))) : wpX_distinctChannels post (nI P, nI C, nI L, st, o1, f1, r1, d1, rm, fs, cn, kd, ch, vl, cp, ow, cl, se, re, hd, ln, b1, li) (nI p) := by
  have q := cs_xd1 (st := st) (o1 := o1) (f1 := f1) (r1 := r1) (d1 := d1) (rm := rm) (fs := fs) (kd := kd) (vl := vl) (cp := cp) (ow := ow) (cl := cl) (se := se) (re := re) (hd := hd) (ln := ln) (b1 := b1) (li := li) (P := P) (L := L) hp hC hn en hch H n 0 0 (by omega) (by decide) (fun c _ => by rw [Nat.zero_testBit]; rfl)
  have e : cs_ct (fun c => cs_nb ch (nI c) p 0) C = 0 := by
    have : ∀ m, cs_ct (fun c => cs_nb ch (nI c) p 0) m = 0 := by
      intro m
      induction m with
      | zero => rfl
      | succ m ih => rw [cs_ct_f (by show ¬ false = true; decide), ih]
    exact this C
  rw [e] at q
  exact Exists.intro (n + 1) q
/-! the ring -/
theorem cs_xrem {post : Int32 → SX → Prop} {c h l : Nat} (hc : c < 8) (hh : h < 8) (eh : hd c = nI h) (el : ln c = nI (l + 1))
    (g : post (b1 (8 * c + h)) (nI P, nI C, nI L, st, o1, f1, r1, d1, rm, fs, cn, kd, ch, vl, cp, ow, cl, se, re, upd hd c (nI ((h + 1) % 8)), upd ln c (nI l), b1, li)) : wpX_removeOldest post (nI P, nI C, nI L, st, o1, f1, r1, d1, rm, fs, cn, kd, ch, vl, cp, ow, cl, se, re, hd, ln, b1, li) (nI c) := by
  unfold wpX_removeOldest
  dsimp only
  rw [cs_cl (show c < 64 by omega), eh, el, cs_m8, cs_cl (show 8 * c + h < 64 by omega), nI_1, cs_a7 (by omega), nI_pred]
  exact ⟨cs_in8 hc, cs_in64 (by omega), nm_e ⟨cs_in8 hc, cs_in8 hc, nm_e ⟨cs_in8 hc, cs_in8 hc, nm_e g⟩⟩⟩
theorem cs_xapp {post : SX → Prop} {c h l : Nat} {w : Int32} (hc : c < 8) (hh : h < 8) (hl : l < 8) (eh : hd c = nI h) (el : ln c = nI l)
    (g : post (nI P, nI C, nI L, st, o1, f1, r1, d1, rm, fs, cn, kd, ch, vl, cp, ow, cl, se, re, hd, upd ln c (nI (l + 1)), upd b1 (8 * c + (h + l) % 8) w, li)) : wpX_append post (nI P, nI C, nI L, st, o1, f1, r1, d1, rm, fs, cn, kd, ch, vl, cp, ow, cl, se, re, hd, ln, b1, li) (nI c) w := by
  unfold wpX_append
  dsimp only
  rw [cs_cl (show c < 64 by omega), eh, el, nI_add, cs_a7 (by omega), cs_m8, cs_cl (show 8 * c + (h + l) % 8 < 64 by omega), nI_1]
  exact ⟨cs_in8 hc, cs_in8 hc, cs_in64 (by omega), nm_e ⟨cs_in8 hc, cs_in8 hc, nm_e g⟩⟩
end
end
section
section
variable {P C L Z : Nat} {ub : Int32} {st o1 f1 r1 d1 rm fs cn kd ch vl cp ow cl se re hd ln b1 li o2 f2 r2 d2 b2 : Nat → Int32}
/-! ranges -/
theorem cs_yP1 {post : Int32 → Prop} {x : Int32} (h : x < 0 ∨ nI P ≤ x) (g : post 1) : wpY_noProcess post (nI P, nI C, ub, nI Z, nI L, st, o2, f2, fs, r2, d2, rm, cn, kd, ch, vl, ow, ln, b2, se, re, cl, li) x := by
  unfold wpY_noProcess
  rcases h with h | h
  · exact br_t h g
  · exact br_c (fun _ => g) (fun _ => br_f (Int32.not_lt.mpr h) g)
theorem cs_yP0 {post : Int32 → Prop} {p : Nat} (h : p < P) (hP : P ≤ 8) (g : post 0) : wpY_noProcess post (nI P, nI C, ub, nI Z, nI L, st, o2, f2, fs, r2, d2, rm, cn, kd, ch, vl, ow, ln, b2, se, re, cl, li) (nI p) := by
  unfold wpY_noProcess
  exact br_f (cs_pos (by omega)) (br_t (nI_lt h (by omega)) g)
theorem cs_yC1 {post : Int32 → Prop} {x : Int32} (h : x < 0 ∨ nI C ≤ x) (g : post 1) : wpY_noChannel post (nI P, nI C, ub, nI Z, nI L, st, o2, f2, fs, r2, d2, rm, cn, kd, ch, vl, ow, ln, b2, se, re, cl, li) x := by
  unfold wpY_noChannel
  rcases h with h | h
  · exact br_t h g
  · exact br_c (fun _ => g) (fun _ => br_f (Int32.not_lt.mpr h) g)
theorem cs_yC0 {post : Int32 → Prop} {p : Nat} (h : p < C) (hC : C ≤ 8) (g : post 0) : wpY_noChannel post (nI P, nI C, ub, nI Z, nI L, st, o2, f2, fs, r2, d2, rm, cn, kd, ch, vl, ow, ln, b2, se, re, cl, li) (nI p) := by
  unfold wpY_noChannel
  exact br_f (cs_pos (by omega)) (br_t (nI_lt h (by omega)) g)
/-! the line -/
theorem cs_ylv {post : SY → Prop} {q : Int32} (hL : L ≤ 8) : ∀ (d kp k : Nat) (a : Nat → Int32), k + d = L → kp ≤ k →
    post (nI P, nI C, ub, nI Z, nI (cs_lv q d kp k a).1, st, o2, f2, fs, r2, d2, rm, cn, kd, ch, vl, ow, ln, b2, se, re, cl, (cs_lv q d kp k a).2) → wY_leave_4 post q (nI P) (nI C) ub (nI Z) (nI L) (d + 1) (nI kp) (nI k) st o2 f2 fs r2 d2 rm cn kd ch vl ow ln b2 se re cl a := by
  intro d
  induction d with
  | zero =>
    intro kp k a hk hkp h
    exact br_t (nI_le (by omega) (by omega)) h
  | succ d ih =>
    intro kp k a hk hkp h
    refine br_f (nI_ge (by omega) (by omega)) ⟨cs_in8 (by omega), ?_⟩
    rw [cs_cl (show k < 64 by omega), cs_cl (show kp < 64 by omega)]
    by_cases z : a k = q
    · rw [cs_lv_t z] at h
      exact br_t z (nm_r (nI_1 k) (ih kp (k + 1) a (by omega) (by omega) h))
    · rw [cs_lv_f z] at h
      exact br_f z ⟨cs_in8 (by omega), cs_in8 (by omega), nm_e (nm_r (nI_1 kp) (nm_r (nI_1 k) (ih (kp + 1) (k + 1) _ (by omega) (by omega) h)))⟩
theorem cs_yleave {post : SY → Prop} {q : Int32} (hL : L ≤ 8) (h : post (nI P, nI C, ub, nI Z, nI (cs_lv q L 0 0 li).1, st, o2, f2, fs, r2, d2, rm, cn, kd, ch, vl, ow, ln, b2, se, re, cl, (cs_lv q L 0 0 li).2)) : wpY_leave post (nI P, nI C, ub, nI Z, nI L, st, o2, f2, fs, r2, d2, rm, cn, kd, ch, vl, ow, ln, b2, se, re, cl, li) q :=
  Exists.intro (L + 1) (cs_ylv hL L 0 0 li (by omega) (by omega) h)
theorem cs_ycomp {post : SY → Prop} {q : Nat} {i how v num : Int32} (hL : L ≤ 8) (hq : q < 8)
    (h : post (nI P, nI C, ub, nI Z, nI (cs_lv (nI q) L 0 0 li).1, upd st q 3, upd o2 q how, upd f2 q i, fs, upd r2 q v, upd d2 q num, rm, cn, kd, ch, vl, ow, ln, b2, se, re, cl, (cs_lv (nI q) L 0 0 li).2)) :
    wpY_complete post (nI P, nI C, ub, nI Z, nI L, st, o2, f2, fs, r2, d2, rm, cn, kd, ch, vl, ow, ln, b2, se, re, cl, li) (nI q) i how v num := by
  unfold wpY_complete
  refine cs_yleave hL ?_
  rw [cs_cl (show q < 64 by omega)]
  exact ⟨cs_in8 hq, nm_e ⟨cs_in8 hq, nm_e ⟨cs_in8 hq, nm_e ⟨cs_in8 hq, nm_e ⟨cs_in8 hq, nm_e h⟩⟩⟩⟩⟩
/-! the owners -/
theorem cs_yrl {post : SY → Prop} {p : Int32} (hC : C ≤ 8) : ∀ (d k : Nat) (a : Nat → Int32), k + d = C →
    post (nI P, nI C, ub, nI Z, nI L, st, o2, f2, fs, r2, d2, rm, cn, kd, ch, vl, cs_rl p d k a, ln, b2, se, re, cl, li) → wY_release_2 post p (nI P) (nI C) ub (nI Z) (nI L) (d + 1) (nI k) st o2 f2 fs r2 d2 rm cn kd ch vl a ln b2 se re cl li := by
  intro d
  induction d with
  | zero =>
    intro k a hk h
    exact br_t (nI_le (by omega) (by omega)) h
  | succ d ih =>
    intro k a hk h
    refine br_f (nI_ge (by omega) (by omega)) ⟨cs_in8 (by omega), ?_⟩
    rw [cs_cl (show k < 64 by omega)]
    by_cases z : a k = p
    · rw [cs_rl_t z] at h
      exact br_t z ⟨cs_in8 (by omega), nm_e (nm_r (nI_1 k) (ih (k + 1) _ (by omega) h))⟩
    · rw [cs_rl_f z] at h
      exact br_f z (nm_r (nI_1 k) (ih (k + 1) a (by omega) h))
theorem cs_yrel {post : SY → Prop} {p : Int32} (hC : C ≤ 8) (h : post (nI P, nI C, ub, nI Z, nI L, st, o2, f2, fs, r2, d2, rm, cn, kd, ch, vl, cs_rl p C 0 ow, ln, b2, se, re, cl, li)) : wpY_release post (nI P, nI C, ub, nI Z, nI L, st, o2, f2, fs, r2, d2, rm, cn, kd, ch, vl, ow, ln, b2, se, re, cl, li) p :=
  Exists.intro (C + 1) (cs_yrl hC C 0 ow (by omega) h)
/-! the waits -/
theorem cs_yf2 {post : Int32 → Prop} {J : Int32 → Int32 → Prop} {c kind kk : Int32} {k q n : Nat} (hk : k < 8) (eq : li k = nI q) (hq : q < 8) (hn : n ≤ 4) (en : cn q = nI n) : ∀ (d i : Nat) (s : Int32), i + d = n →
    cs_wk post (fun s' => J s' (nI k + 1)) kk (cs_w1 ch kd c kind q d i) s → wY_waiter_37 post J c kind kk (nI k) (nI P) (nI C) ub (nI Z) (nI L) st o2 f2 fs r2 d2 rm cn kd ch vl ow ln b2 se re cl li (d + 1) s (nI i) := by
  intro d
  induction d with
  | zero =>
    intro i s hi h
    refine ⟨cs_in8 hk, ?_⟩
    rw [cs_cl (show k < 64 by omega), eq, cs_cl (show q < 64 by omega), en]
    exact ⟨cs_in8 hq, br_t (nI_le (by omega) (by omega)) (nm_e h)⟩
  | succ d ih =>
    intro i s hi h
    refine ⟨cs_in8 hk, ?_⟩
    rw [cs_cl (show k < 64 by omega), eq, cs_cl (show q < 64 by omega), en, cs_m4]
    refine ⟨cs_in8 hq, br_f (nI_ge (by omega) (by omega)) ⟨cs_in8 hk, nm_e ⟨cs_in32 (by omega), ?_⟩⟩⟩
    rw [cs_cl (show 4 * q + i < 64 by omega)]
    refine br_c (fun z => ⟨cs_in32 (by omega), br_c (fun y => ?_) (fun y => ?_)⟩) (fun z => ?_)
    · rw [cs_w1_t y z] at h
      exact br_c h.1 (fun x => nm_e (nm_r (nI_1 i) (ih (i + 1) (s + 1) (by omega) (h.2 x))))
    · rw [cs_w1_f (fun e => y e.1)] at h
      exact nm_r (nI_1 i) (ih (i + 1) s (by omega) h)
    · rw [cs_w1_f (fun e => z e.2)] at h
      exact nm_r (nI_1 i) (ih (i + 1) s (by omega) h)
theorem cs_yf1 {post : Int32 → Prop} {c kind kk : Int32} (hL : L ≤ 8) (hcn : ∀ p, ∃ n, n ≤ 4 ∧ cn p = nI n) (hli : ∀ k, k < L → ∃ q, q < 8 ∧ li k = nI q) : ∀ (d k : Nat) (s : Int32), k + d = L →
    cs_wk post (fun _ => post (-4)) kk (cs_ws ch kd c kind cn li d k) s → wY_waiter_25 post c kind kk (nI P) (nI C) ub (nI Z) (nI L) st o2 f2 fs r2 d2 rm cn kd ch vl ow ln b2 se re cl li (d + 1) s (nI k) := by
  intro d
  induction d with
  | zero =>
    intro k s hk h
    exact br_t (nI_le (by omega) (by omega)) h
  | succ d ih =>
    intro k s hk h
    obtain ⟨q, hq, eq⟩ := hli k (by omega)
    obtain ⟨n, hn, en⟩ := hcn q
    rw [cs_ws_s (q := q) (n := n) (by rw [eq, cs_cl (by omega)]) (by rw [en, cs_cl (by omega)])] at h
    refine br_f (nI_ge (by omega) (by omega)) ⟨n + 1, cs_yf2 (by omega) eq hq hn en n 0 s (by omega) ?_⟩
    rw [nI_1]
    have h' := cs_wk_app _ _ _ h
    exact cs_wk_mono (fun s' g => ih (k + 1) s' (by omega) g) _ _ h'
theorem cs_yfind {post : Int32 → Prop} {c : Nat} {kind kk : Int32} (hK : cs_K P C L st cn kd ch fs li) (hc : c < C) (hk : kind = 0 ∨ kind = 1) (h : post (cs_fw kk (cs_ws ch kd (nI c) kind cn li L 0) 0)) : wpY_waiter post (nI P, nI C, ub, nI Z, nI L, st, o2, f2, fs, r2, d2, rm, cn, kd, ch, vl, ow, ln, b2, se, re, cl, li) (nI c) kind kk := by
  have q : wY_waiter_25 post (nI c) kind kk (nI P) (nI C) ub (nI Z) (nI L) st o2 f2 fs r2 d2 rm cn kd ch vl ow ln b2 se re cl li (L + 1) 0 0 := cs_yf1 (cs_K_L hK) (cs_K_cn hK) (fun k hk => by
    obtain ⟨q, h1, h2, _⟩ := cs_K_li hK k hk
    have := cs_K_P hK
    exact ⟨q, by omega, h2⟩) L 0 0 (by omega) (cs_wk_fw _ _ h)
  unfold wpY_waiter
  refine cs_yC0 hc (cs_K_C hK) (br_t rfl ?_)
  rcases hk with e | e
  · subst e
    exact br_t rfl ⟨_, q⟩
  · subst e
    exact br_f (by decide) (br_t rfl ⟨_, q⟩)
theorem cs_yw1 {post : Int32 → Prop} {c : Nat} {kind : Int32} (hK : cs_K P C L st cn kd ch fs li) (hc : c < C) (hk : kind = 0 ∨ kind = 1)
    (h : post (nI (cs_ws ch kd (nI c) kind cn li L 0).length)) : ∀ (d k : Nat), k + d = (cs_ws ch kd (nI c) kind cn li L 0).length → wY_waits_2 post (nI c) kind (nI P) (nI C) ub (nI Z) (nI L) st o2 f2 fs r2 d2 rm cn kd ch vl ow ln b2 se re cl li (d + 1) (nI k) := by
  obtain ⟨hl, hm⟩ := cs_K_ws hK (nI c) kind
  intro d
  induction d with
  | zero =>
    intro k hkd
    have e : k = (cs_ws ch kd (nI c) kind cn li L 0).length := by omega
    refine br_c (fun _ => by rw [e]; exact h) (fun _ => cs_yfind hK hc hk ?_)
    refine br_t ?_ (by rw [e]; exact h)
    exact cs_fw_ge (k := k) (by omega) _ 0 (by omega)
  | succ d ih =>
    intro k hkd
    refine br_f (nI_ge (b := 32) (by omega) (by decide)) (cs_yfind hK hc hk ?_)
    obtain ⟨a, h1, h2⟩ := cs_fw_lt (k := k) (by omega) (cs_ws ch kd (nI c) kind cn li L 0) 0 (by omega) (by omega)
    have h3 := hm a h1
    rw [nI_0] at h2
    rw [h2]
    exact br_f (cs_nn4 (by omega)) (nm_r (nI_1 k) (ih (k + 1) (by omega)))
theorem cs_ycount {post : Int32 → Prop} {c : Nat} {kind : Int32} (hK : cs_K P C L st cn kd ch fs li) (hc : c < C) (hk : kind = 0 ∨ kind = 1)
    (h : post (nI (cs_ws ch kd (nI c) kind cn li L 0).length)) : wpY_waits post (nI P, nI C, ub, nI Z, nI L, st, o2, f2, fs, r2, d2, rm, cn, kd, ch, vl, ow, ln, b2, se, re, cl, li) (nI c) kind :=
  Exists.intro _ (cs_yw1 hK hc hk h _ 0 (Nat.zero_add _))
/-! cases -/
theorem cs_yl1 {post : Int32 → Prop} {c kind : Int32} {p n : Nat} (hp : p < 8) (hn : n ≤ 4) (en : cn p = nI n) : ∀ (d i : Nat), i + d = n →
    post (cs_lc ch kd c kind p d i) → wY_caseOn_3 post (nI p) c kind (nI P) (nI C) ub (nI Z) (nI L) st o2 f2 fs r2 d2 rm cn kd ch vl ow ln b2 se re cl li (d + 1) (nI i) := by
  intro d
  induction d with
  | zero =>
    intro i hi h
    refine ⟨cs_in8 hp, ?_⟩
    rw [cs_cl (show p < 64 by omega), en]
    exact br_t (nI_le (by omega) (by omega)) h
  | succ d ih =>
    intro i hi h
    refine ⟨cs_in8 hp, ?_⟩
    rw [cs_cl (show p < 64 by omega), en, cs_m4, cs_cl (show 4 * p + i < 64 by omega)]
    refine br_f (nI_ge (by omega) (by omega)) ⟨cs_in32 (by omega), br_c (fun z => ⟨cs_in32 (by omega), br_c (fun y => ?_) (fun y => ?_)⟩) (fun z => ?_)⟩
    · rw [cs_lc_t z y] at h
      exact h
    · rw [cs_lc_f (fun e => y e.2)] at h
      exact nm_r (nI_1 i) (ih (i + 1) (by omega) h)
    · rw [cs_lc_f (fun e => z e.1)] at h
      exact nm_r (nI_1 i) (ih (i + 1) (by omega) h)
theorem cs_ylow {post : Int32 → Prop} {c kind : Int32} {p n : Nat} (hp : p < 8) (hn : n ≤ 4) (en : cn p = nI n) (h : post (cs_lc ch kd c kind p n 0)) : wpY_caseOn post (nI P, nI C, ub, nI Z, nI L, st, o2, f2, fs, r2, d2, rm, cn, kd, ch, vl, ow, ln, b2, se, re, cl, li) (nI p) c kind :=
  Exists.intro (n + 1) (cs_yl1 hp hn en n 0 (by omega) h)
theorem cs_ynames {post : Int32 → Prop} {c : Int32} {p n : Nat} (hkd : ∀ j, kd j = 0 ∨ kd j = 1) (hp : p < 8) (hn : n ≤ 4) (en : cn p = nI n)
    (h1 : cs_nb ch c p n = true → post 1) (h0 : cs_nb ch c p n = false → post 0) : wpY_names post (nI P, nI C, ub, nI Z, nI L, st, o2, f2, fs, r2, d2, rm, cn, kd, ch, vl, ow, ln, b2, se, re, cl, li) (nI p) c := by
  have e := cs_nb_lc (ch := ch) (kd := kd) (c := c) (p := p) (n := n) hkd (by omega)
  unfold wpY_names
  refine cs_ylow hp hn en (br_c (fun z => h1 (e.mp (Or.inl z))) (fun z => cs_ylow hp hn en (br_c (fun y => h0 ?_) (fun y => h1 (e.mp (Or.inr y))))))
  cases x : cs_nb ch c p n with
  | false => rfl
  | true =>
    rcases e.mpr x with w | w
    · exact absurd w z
    · exact absurd y w
theorem cs_ym1 {post : Int32 → Prop} {p n : Nat} {m : Int32} (hkd : ∀ j, kd j = 0 ∨ kd j = 1) (hp : p < 8) (hC : C ≤ 8) (hn : n ≤ 4) (en : cn p = nI n) (hm : cs_ms ch ow p C n m) (H : post m) : ∀ (d k : Nat), k + d = C →
    (∀ b, b < C → m = nI b → k ≤ b) → wY_missing_2 post (nI p) (nI P) (nI C) ub (nI Z) (nI L) st o2 f2 fs r2 d2 rm cn kd ch vl ow ln b2 se re cl li (d + 1) (nI k) := by
  intro d
  induction d with
  | zero =>
    intro k hk h
    refine br_t (nI_le (by omega) (by omega)) ?_
    rcases hm with ⟨e, _⟩ | ⟨b, h1, h2, _⟩
    · rw [← e]; exact H
    · exact absurd (h b h1 h2) (by omega)
  | succ d ih =>
    intro k hk h
    refine br_f (nI_ge (by omega) (by omega)) (cs_ynames hkd hp hn en (fun z => br_f (by decide) ⟨cs_in8 (by omega), ?_⟩) (fun z => br_t rfl (nm_r (nI_1 k) (ih (k + 1) (by omega) (fun b hb e => ?_)))))
    · rw [cs_cl (show k < 64 by omega)]
      obtain ⟨j, hj, ej⟩ := (cs_nb_iff n).mp z
      refine br_c (fun y => nm_r (nI_1 k) (ih (k + 1) (by omega) (fun b hb e => ?_))) (fun y => ?_)
      · have q := h b hb e
        rcases hm with ⟨e', _⟩ | ⟨b', h1, h2, h3, _⟩
        · exact absurd (e'.symm.trans e) (cs_nn4' (by omega))
        · have : b' = b := cs_inj (by omega) (by omega) (h2.symm.trans e)
          subst this
          by_cases x : b' = k
          · subst x; exact absurd y h3
          · omega
      · rcases hm with ⟨_, g⟩ | ⟨b', h1, h2, h3, _, h6⟩
        · exact absurd (g j hj k (by omega) ej) y
        · have q1 := h6 j hj k (by omega) ej y
          have q2 := h b' h1 h2
          have : b' = k := by omega
          subst this
          rw [← h2]; exact H
    · have q := h b hb e
      rcases hm with ⟨e', _⟩ | ⟨b', h1, h2, h3, ⟨j, h4, h5⟩, _⟩
      · exact absurd (e'.symm.trans e) (cs_nn4' (by omega))
      · have : b' = b := cs_inj (by omega) (by omega) (h2.symm.trans e)
        subst this
        by_cases x : b' = k
        · subst x
          have := (cs_nb_iff (ch := ch) (c := nI b') (p := p) n).mpr ⟨j, h4, h5⟩
          rw [z] at this
          exact absurd this (by decide)
        · omega
theorem cs_ymiss {post : Int32 → Prop} {p n : Nat} {m : Int32} (hkd : ∀ j, kd j = 0 ∨ kd j = 1) (hp : p < 8) (hC : C ≤ 8) (hn : n ≤ 4) (en : cn p = nI n) (hm : cs_ms ch ow p C n m) (H : post m) : wpY_missing post (nI P, nI C, ub, nI Z, nI L, st, o2, f2, fs, r2, d2, rm, cn, kd, ch, vl, ow, ln, b2, se, re, cl, li) (nI p) :=
  Exists.intro (C + 1) (cs_ym1 hkd hp hC hn en hm H C 0 (by omega) (fun b _ _ => Nat.zero_le b))
/-! the buffer -/
theorem cs_yapp {post : SY → Prop} {c l : Nat} {w : Int32} (hc : c < 8) (hl : l < 8) (el : ln c = nI l)
    (g : post (nI P, nI C, ub, nI Z, nI L, st, o2, f2, fs, r2, d2, rm, cn, kd, ch, vl, ow, upd ln c (nI (l + 1)), upd b2 (8 * c + l) w, upd se c (se c + 1), re, cl, li)) : wpY_append post (nI P, nI C, ub, nI Z, nI L, st, o2, f2, fs, r2, d2, rm, cn, kd, ch, vl, ow, ln, b2, se, re, cl, li) (nI c) w := by
  unfold wpY_append
  dsimp only
  rw [cs_cl (show c < 64 by omega), el, cs_m8, cs_cl (show 8 * c + l < 64 by omega), nI_1]
  exact ⟨cs_in8 hc, cs_in64 (by omega), nm_e ⟨cs_in8 hc, cs_in8 hc, nm_e ⟨cs_in8 hc, cs_in8 hc, nm_e g⟩⟩⟩
end
end
section
section
variable {P C L Z : Nat} {ub : Int32} {st o1 f1 r1 d1 rm fs cn kd ch vl cp ow cl se re hd ln b1 li o2 f2 r2 d2 b2 : Nat → Int32}
theorem cs_K_doneI (H : cs_K P C L st cn kd ch fs li) {p : Nat} (hp : p < 64) (hs : ¬ st p = 2) : cs_K P C L (upd st p 3) cn kd ch fs li := by
  have := cs_K_done H p hp
  rw [cs_K_id H hp hs] at this
  exact this
theorem cs_xcompI {post : SX → Prop} {q : Nat} {i how v num : Int32} (hL : L ≤ 8) (hq : q < 8) (e : cs_lv (nI q) L 0 0 li = (L, li))
    (h : post (nI P, nI C, nI L, upd st q 3, upd o1 q how, upd f1 q i, upd r1 q v, upd d1 q num, rm, fs, cn, kd, ch, vl, cp, ow, cl, se, re, hd, ln, b1, li)) : wpX_complete post (nI P, nI C, nI L, st, o1, f1, r1, d1, rm, fs, cn, kd, ch, vl, cp, ow, cl, se, re, hd, ln, b1, li) (nI q) i how v num := by
  refine cs_xcomp hL hq ?_
  rw [e]
  exact h
theorem cs_ycompI {post : SY → Prop} {q : Nat} {i how v num : Int32} (hL : L ≤ 8) (hq : q < 8) (e : cs_lv (nI q) L 0 0 li = (L, li))
    (h : post (nI P, nI C, ub, nI Z, nI L, upd st q 3, upd o2 q how, upd f2 q i, fs, upd r2 q v, upd d2 q num, rm, cn, kd, ch, vl, ow, ln, b2, se, re, cl, li)) : wpY_complete post (nI P, nI C, ub, nI Z, nI L, st, o2, f2, fs, r2, d2, rm, cn, kd, ch, vl, ow, ln, b2, se, re, cl, li) (nI q) i how v num := by
  refine cs_ycomp hL hq ?_
  rw [e]
  exact h
theorem cs_xfindE {post : Int32 → Prop} {c kind kk w : Int32} (hK : cs_K P C L st cn kd ch fs li) (e : cs_fw kk (cs_ws ch kd c kind cn li L 0) 0 = w) (h : post w) : wpX_findWait post (nI P, nI C, nI L, st, o1, f1, r1, d1, rm, fs, cn, kd, ch, vl, cp, ow, cl, se, re, hd, ln, b1, li) c kind kk :=
  cs_xfind hK (by rw [e]; exact h)
theorem cs_yfindE {post : Int32 → Prop} {c : Nat} {kind kk w : Int32} (hK : cs_K P C L st cn kd ch fs li) (hc : c < C) (hk : kind = 0 ∨ kind = 1) (e : cs_fw kk (cs_ws ch kd (nI c) kind cn li L 0) 0 = w) (h : post w) : wpY_waiter post (nI P, nI C, ub, nI Z, nI L, st, o2, f2, fs, r2, d2, rm, cn, kd, ch, vl, ow, ln, b2, se, re, cl, li) (nI c) kind kk :=
  cs_yfind hK hc hk (by rw [e]; exact h)
/-! receive -/
section
variable {p i c : Nat} {post : Int32 → SX → Prop}
theorem cs_xR1 (hK : cs_K P C L st cn kd ch fs li) (hc : c < C) (el : ln c = 0) (ew : cs_fw 0 (cs_ws ch kd (nI c) 0 cn li L 0) 0 = -4) (ec : cl c = 0)
    (h : post 0 (nI P, nI C, nI L, st, o1, f1, r1, d1, rm, fs, cn, kd, ch, vl, cp, ow, cl, se, re, hd, ln, b1, li)) : wpX_fireReceive post (nI P, nI C, nI L, st, o1, f1, r1, d1, rm, fs, cn, kd, ch, vl, cp, ow, cl, se, re, hd, ln, b1, li) (nI p) (nI i) (nI c) := by
  have hC := cs_K_C hK
  unfold wpX_fireReceive
  dsimp only
  rw [cs_cl (show c < 64 by omega), el, ec]
  exact ⟨cs_in8 (by omega), br_t (by decide) (cs_xfindE hK ew (br_t rfl ⟨cs_in8 (by omega), br_t rfl h⟩))⟩
theorem cs_xR2 (hK : cs_K P C L st cn kd ch fs li) (hc : c < C) (hp : p < 8) (hs : ¬ st p = 2) (el : ln c = 0) (ew : cs_fw 0 (cs_ws ch kd (nI c) 0 cn li L 0) 0 = -4) (ec : ¬ cl c = 0)
    (h : post 1 (nI P, nI C, nI L, upd st p 3, upd o1 p 2, upd f1 p (nI i), upd r1 p 0, upd d1 p 0, rm, fs, cn, kd, ch, vl, cp, ow, cl, se, re, hd, ln, b1, li)) : wpX_fireReceive post (nI P, nI C, nI L, st, o1, f1, r1, d1, rm, fs, cn, kd, ch, vl, cp, ow, cl, se, re, hd, ln, b1, li) (nI p) (nI i) (nI c) := by
  have hC := cs_K_C hK
  unfold wpX_fireReceive
  dsimp only
  rw [cs_cl (show c < 64 by omega), el]
  exact ⟨cs_in8 (by omega), br_t (by decide) (cs_xfindE hK ew (br_t rfl ⟨cs_in8 (by omega), br_f ec (cs_xcompI (cs_K_L hK) hp (cs_K_id hK (by omega) hs) h)⟩))⟩
theorem cs_xR3 {a : Nat} (hK : cs_K P C L st cn kd ch fs li) (hc : c < C) (hp : p < 8) (hs : ¬ st p = 2) (el : ln c = 0) (ha : a < 32) (ew : cs_fw 0 (cs_ws ch kd (nI c) 0 cn li L 0) 0 = nI a)
    (h : post 1 (nI P, nI C, nI (cs_lv (nI (a / 4)) L 0 0 li).1, upd (upd st (a / 4) 3) p 3, upd (upd o1 (a / 4) 1) p 1, upd (upd f1 (a / 4) (nI (a % 4))) p (nI i), upd (upd r1 (a / 4) (vl a)) p (vl a), upd (upd d1 (a / 4) (se c + 1)) p (re c + 1), rm, fs, cn, kd, ch, vl, cp, ow, cl, upd se c (se c + 1), upd re c (re c + 1), hd, ln, b1, (cs_lv (nI (a / 4)) L 0 0 li).2)) : wpX_fireReceive post (nI P, nI C, nI L, st, o1, f1, r1, d1, rm, fs, cn, kd, ch, vl, cp, ow, cl, se, re, hd, ln, b1, li) (nI p) (nI i) (nI c) := by
  have hC := cs_K_C hK
  have hK1 := cs_K_done hK (a / 4) (by omega)
  have hs1 : ¬ upd st (a / 4) 3 p = 2 := by
    by_cases z : p = a / 4
    · rw [z, pk_us]; decide
    · rw [pk_un z]; exact hs
  unfold wpX_fireReceive
  dsimp only
  rw [cs_cl (show c < 64 by omega), el]
  refine ⟨cs_in8 (by omega), br_t (by decide) (cs_xfindE hK ew (br_f (cs_nn4 (by omega)) ⟨cs_in32 ha, ?_⟩))⟩
  rw [cs_cl (show a < 64 by omega)]
  refine nm_e ⟨cs_in8 (by omega), cs_in8 (by omega), nm_e ⟨cs_in8 (by omega), cs_in8 (by omega), nm_e ⟨cs_in8 (by omega), ?_⟩⟩⟩
  rw [pk_us]
  refine cs_xpass (cs_K_L hK) ha ?_
  dsimp only
  rw [pk_us]
  exact ⟨cs_in8 (by omega), cs_xcompI (cs_K_L hK1) hp (cs_K_id hK1 (by omega) hs1) h⟩
theorem cs_xR4 {h l : Nat} (hK : cs_K P C L st cn kd ch fs li) (hc : c < C) (hp : p < 8) (hs : ¬ st p = 2) (hh : h < 8) (hl : l < 8) (eh : hd c = nI h) (el : ln c = nI (l + 1)) (ew : cs_fw 0 (cs_ws ch kd (nI c) 0 cn li L 0) 0 = -4)
    (g : post 1 (nI P, nI C, nI L, upd st p 3, upd o1 p 1, upd f1 p (nI i), upd r1 p (b1 (8 * c + h)), upd d1 p (re c + 1), rm, fs, cn, kd, ch, vl, cp, ow, cl, se, upd re c (re c + 1), upd hd c (nI ((h + 1) % 8)), upd ln c (nI l), b1, li)) : wpX_fireReceive post (nI P, nI C, nI L, st, o1, f1, r1, d1, rm, fs, cn, kd, ch, vl, cp, ow, cl, se, re, hd, ln, b1, li) (nI p) (nI i) (nI c) := by
  have hC := cs_K_C hK
  have hK1 := cs_K_doneI hK (show p < 64 by omega) hs
  unfold wpX_fireReceive
  dsimp only
  rw [cs_cl (show c < 64 by omega)]
  refine ⟨cs_in8 (by omega), br_f (by rw [el]; exact nI_nle (by omega) (by omega)) (cs_xrem (by omega) hh eh el ?_)⟩
  dsimp only
  refine ⟨cs_in8 (by omega), cs_in8 (by omega), nm_e ⟨cs_in8 (by omega), ?_⟩⟩
  rw [pk_us]
  refine cs_xcompI (cs_K_L hK) hp (cs_K_id hK (by omega) hs) ?_
  dsimp only
  unfold wpX_refill
  exact cs_xfindE hK1 ew (br_t rfl g)
theorem cs_xR5 {h l a : Nat} (hK : cs_K P C L st cn kd ch fs li) (hc : c < C) (hp : p < 8) (hs : ¬ st p = 2) (hh : h < 8) (hl : l < 8) (eh : hd c = nI h) (el : ln c = nI (l + 1)) (ha : a < 32) (ew : cs_fw 0 (cs_ws ch kd (nI c) 0 cn li L 0) 0 = nI a)
    (g : post 1 (nI P, nI C, nI (cs_lv (nI (a / 4)) L 0 0 li).1, upd (upd st p 3) (a / 4) 3, upd (upd o1 p 1) (a / 4) 1, upd (upd f1 p (nI i)) (a / 4) (nI (a % 4)), upd (upd r1 p (b1 (8 * c + h))) (a / 4) (vl a), upd (upd d1 p (re c + 1)) (a / 4) (se c + 1), rm, fs, cn, kd, ch, vl, cp, ow, cl, upd se c (se c + 1), upd re c (re c + 1), upd hd c (nI ((h + 1) % 8)), upd (upd ln c (nI l)) c (nI (l + 1)), upd b1 (8 * c + ((h + 1) % 8 + l) % 8) (vl a), (cs_lv (nI (a / 4)) L 0 0 li).2)) : wpX_fireReceive post (nI P, nI C, nI L, st, o1, f1, r1, d1, rm, fs, cn, kd, ch, vl, cp, ow, cl, se, re, hd, ln, b1, li) (nI p) (nI i) (nI c) := by
  have hC := cs_K_C hK
  have hK1 := cs_K_doneI hK (show p < 64 by omega) hs
  unfold wpX_fireReceive
  dsimp only
  rw [cs_cl (show c < 64 by omega)]
  refine ⟨cs_in8 (by omega), br_f (by rw [el]; exact nI_nle (by omega) (by omega)) (cs_xrem (by omega) hh eh el ?_)⟩
  dsimp only
  refine ⟨cs_in8 (by omega), cs_in8 (by omega), nm_e ⟨cs_in8 (by omega), ?_⟩⟩
  rw [pk_us]
  refine cs_xcompI (cs_K_L hK) hp (cs_K_id hK (by omega) hs) ?_
  dsimp only
  unfold wpX_refill
  refine cs_xfindE hK1 ew (br_f (cs_nn4 (by omega)) ⟨cs_in32 ha, ?_⟩)
  rw [cs_cl (show a < 64 by omega)]
  refine nm_e (cs_xapp (by omega) (show (h + 1) % 8 < 8 by omega) hl pk_us pk_us ?_)
  dsimp only
  rw [cs_cl (show c < 64 by omega)]
  refine ⟨cs_in8 (by omega), cs_in8 (by omega), nm_e ⟨cs_in8 (by omega), ?_⟩⟩
  rw [pk_us]
  exact cs_xpass (cs_K_L hK) ha g
/-! send -/
variable {w : Int32}
theorem cs_xS1 (hK : cs_K P C L st cn kd ch fs li) (hc : c < C) (hp : p < 8) (hs : ¬ st p = 2) (ec : ¬ cl c = 0)
    (h : post 1 (nI P, nI C, nI L, upd st p 3, upd o1 p 2, upd f1 p (nI i), upd r1 p 0, upd d1 p 0, rm, fs, cn, kd, ch, vl, cp, ow, cl, se, re, hd, ln, b1, li)) : wpX_fireSend post (nI P, nI C, nI L, st, o1, f1, r1, d1, rm, fs, cn, kd, ch, vl, cp, ow, cl, se, re, hd, ln, b1, li) (nI p) (nI i) (nI c) w := by
  have hC := cs_K_C hK
  unfold wpX_fireSend
  dsimp only
  rw [cs_cl (show c < 64 by omega)]
  exact ⟨cs_in8 (by omega), br_f ec (cs_xcompI (cs_K_L hK) hp (cs_K_id hK (by omega) hs) h)⟩
theorem cs_xS2 {a : Nat} (hK : cs_K P C L st cn kd ch fs li) (hc : c < C) (hp : p < 8) (hs : ¬ st p = 2) (ec : cl c = 0) (ha : a < 32) (ew : cs_fw 0 (cs_ws ch kd (nI c) 1 cn li L 0) 0 = nI a)
    (h : post 1 (nI P, nI C, nI (cs_lv (nI (a / 4)) L 0 0 li).1, upd (upd st p 3) (a / 4) 3, upd (upd o1 p 1) (a / 4) 1, upd (upd f1 p (nI i)) (a / 4) (nI (a % 4)), upd (upd r1 p w) (a / 4) w, upd (upd d1 p (se c + 1)) (a / 4) (re c + 1), rm, fs, cn, kd, ch, vl, cp, ow, cl, upd se c (se c + 1), upd re c (re c + 1), hd, ln, b1, (cs_lv (nI (a / 4)) L 0 0 li).2)) : wpX_fireSend post (nI P, nI C, nI L, st, o1, f1, r1, d1, rm, fs, cn, kd, ch, vl, cp, ow, cl, se, re, hd, ln, b1, li) (nI p) (nI i) (nI c) w := by
  have hC := cs_K_C hK
  unfold wpX_fireSend
  dsimp only
  rw [cs_cl (show c < 64 by omega)]
  refine ⟨cs_in8 (by omega), br_t ec (cs_xfindE hK ew (br_f (cs_nn4 (by omega)) ⟨cs_in8 (by omega), cs_in8 (by omega), nm_e ⟨cs_in8 (by omega), cs_in8 (by omega), nm_e ⟨cs_in8 (by omega), ?_⟩⟩⟩))⟩
  rw [pk_us]
  refine cs_xcompI (cs_K_L hK) hp (cs_K_id hK (by omega) hs) ?_
  dsimp only
  rw [pk_us]
  exact ⟨cs_in8 (by omega), cs_xpass (cs_K_L hK) ha h⟩
theorem cs_xS3 (hK : cs_K P C L st cn kd ch fs li) (hc : c < C) (ec : cl c = 0) (ew : cs_fw 0 (cs_ws ch kd (nI c) 1 cn li L 0) 0 = -4) (hl : cp c ≤ ln c)
    (h : post 0 (nI P, nI C, nI L, st, o1, f1, r1, d1, rm, fs, cn, kd, ch, vl, cp, ow, cl, se, re, hd, ln, b1, li)) : wpX_fireSend post (nI P, nI C, nI L, st, o1, f1, r1, d1, rm, fs, cn, kd, ch, vl, cp, ow, cl, se, re, hd, ln, b1, li) (nI p) (nI i) (nI c) w := by
  have hC := cs_K_C hK
  unfold wpX_fireSend
  dsimp only
  rw [cs_cl (show c < 64 by omega)]
  exact ⟨cs_in8 (by omega), br_t ec (cs_xfindE hK ew (br_t rfl ⟨cs_in8 (by omega), cs_in8 (by omega), br_t hl h⟩))⟩
theorem cs_xS4 {h l : Nat} (hK : cs_K P C L st cn kd ch fs li) (hc : c < C) (hp : p < 8) (hs : ¬ st p = 2) (ec : cl c = 0) (ew : cs_fw 0 (cs_ws ch kd (nI c) 1 cn li L 0) 0 = -4) (hl : ¬ cp c ≤ ln c) (hh : h < 8) (hl8 : l < 8) (eh : hd c = nI h) (el : ln c = nI l)
    (g : post 1 (nI P, nI C, nI L, upd st p 3, upd o1 p 1, upd f1 p (nI i), upd r1 p w, upd d1 p (se c + 1), rm, fs, cn, kd, ch, vl, cp, ow, cl, upd se c (se c + 1), re, hd, upd ln c (nI (l + 1)), upd b1 (8 * c + (h + l) % 8) w, li)) : wpX_fireSend post (nI P, nI C, nI L, st, o1, f1, r1, d1, rm, fs, cn, kd, ch, vl, cp, ow, cl, se, re, hd, ln, b1, li) (nI p) (nI i) (nI c) w := by
  have hC := cs_K_C hK
  unfold wpX_fireSend
  dsimp only
  rw [cs_cl (show c < 64 by omega)]
  refine ⟨cs_in8 (by omega), br_t ec (cs_xfindE hK ew (br_t rfl ⟨cs_in8 (by omega), cs_in8 (by omega), br_f hl (cs_xapp (by omega) hh hl8 eh el ?_)⟩))⟩
  dsimp only
  refine ⟨cs_in8 (by omega), cs_in8 (by omega), nm_e ⟨cs_in8 (by omega), ?_⟩⟩
  rw [pk_us]
  exact cs_xcompI (cs_K_L hK) hp (cs_K_id hK (by omega) hs) g
end
end
end
section
section
variable {P C L Z : Nat} {ub : Int32} {st o1 f1 r1 d1 rm fs cn kd ch vl cp ow cl se re hd ln b1 li o2 f2 r2 d2 b2 : Nat → Int32}
variable {p i c : Nat} {post : Int32 → SY → Prop}
theorem cs_yend {x : Int32} (hp : p < 8) (e : st p = 3) (h : post 1 (nI P, nI C, ub, nI Z, nI L, st, o2, f2, fs, r2, d2, rm, cn, kd, ch, vl, ow, ln, b2, se, re, cl, li)) : wY_receive_259 post (nI p) (nI P) (nI C) ub (nI Z) (nI L) st o2 f2 fs r2 d2 rm cn kd ch vl ow ln b2 se re cl li := by
  unfold wY_receive_259
  rw [cs_cl (show p < 64 by omega)]
  exact ⟨cs_in8 hp, br_t e h⟩
theorem cs_yend0 (hp : p < 8) (e : ¬ st p = 3) (h : post 0 (nI P, nI C, ub, nI Z, nI L, st, o2, f2, fs, r2, d2, rm, cn, kd, ch, vl, ow, ln, b2, se, re, cl, li)) : wY_receive_259 post (nI p) (nI P) (nI C) ub (nI Z) (nI L) st o2 f2 fs r2 d2 rm cn kd ch vl ow ln b2 se re cl li := by
  unfold wY_receive_259
  rw [cs_cl (show p < 64 by omega)]
  exact ⟨cs_in8 hp, br_f e h⟩
theorem cs_ysend (hp : p < 8) (e : st p = 3) (h : post 1 (nI P, nI C, ub, nI Z, nI L, st, o2, f2, fs, r2, d2, rm, cn, kd, ch, vl, ow, ln, b2, se, re, cl, li)) : wY_send_153 post (nI p) (nI P) (nI C) ub (nI Z) (nI L) st o2 f2 fs r2 d2 rm cn kd ch vl ow ln b2 se re cl li := by
  unfold wY_send_153
  rw [cs_cl (show p < 64 by omega)]
  exact ⟨cs_in8 hp, br_t e h⟩
theorem cs_ysend0 (hp : p < 8) (e : ¬ st p = 3) (h : post 0 (nI P, nI C, ub, nI Z, nI L, st, o2, f2, fs, r2, d2, rm, cn, kd, ch, vl, ow, ln, b2, se, re, cl, li)) : wY_send_153 post (nI p) (nI P) (nI C) ub (nI Z) (nI L) st o2 f2 fs r2 d2 rm cn kd ch vl ow ln b2 se re cl li := by
  unfold wY_send_153
  rw [cs_cl (show p < 64 by omega)]
  exact ⟨cs_in8 hp, br_f e h⟩
/-! receive -/
theorem cs_yR1 (hK : cs_K P C L st cn kd ch fs li) (hc : c < C) (hp : p < 8) (hi : i < 4) (ech : ch (4 * p + i) = nI c) (h3 : ¬ st p = 3) (el : ln c = 0) (ew : cs_fw 0 (cs_ws ch kd (nI c) 0 cn li L 0) 0 = -4) (ec : cl c = 0)
    (h : post 0 (nI P, nI C, ub, nI Z, nI L, st, o2, f2, fs, r2, d2, rm, cn, kd, ch, vl, ow, ln, b2, se, re, cl, li)) : wpY_receive post (nI P, nI C, ub, nI Z, nI L, st, o2, f2, fs, r2, d2, rm, cn, kd, ch, vl, ow, ln, b2, se, re, cl, li) (nI p) (nI i) := by
  have hC := cs_K_C hK
  unfold wpY_receive
  dsimp only
  rw [cs_m4, cs_cl (show 4 * p + i < 64 by omega), ech]
  refine ⟨cs_in32 (by omega), nm_e (cs_yfindE hK hc (Or.inl rfl) ew ?_)⟩
  rw [cs_cl (show c < 64 by omega), el]
  exact ⟨cs_in8 (by omega), br_t (by decide) (br_t (by decide) ⟨cs_in8 (by omega), br_t ec (cs_yend0 hp h3 h)⟩)⟩
theorem cs_yR2 (hK : cs_K P C L st cn kd ch fs li) (hc : c < C) (hp : p < 8) (hi : i < 4) (ech : ch (4 * p + i) = nI c) (hs : ¬ st p = 2) (el : ln c = 0) (ew : cs_fw 0 (cs_ws ch kd (nI c) 0 cn li L 0) 0 = -4) (ec : ¬ cl c = 0)
    (h : post 1 (nI P, nI C, ub, nI Z, nI L, upd st p 3, upd o2 p 2, upd f2 p (nI i), fs, upd r2 p 0, upd d2 p 0, rm, cn, kd, ch, vl, ow, ln, b2, se, re, cl, li)) : wpY_receive post (nI P, nI C, ub, nI Z, nI L, st, o2, f2, fs, r2, d2, rm, cn, kd, ch, vl, ow, ln, b2, se, re, cl, li) (nI p) (nI i) := by
  have hC := cs_K_C hK
  unfold wpY_receive
  dsimp only
  rw [cs_m4, cs_cl (show 4 * p + i < 64 by omega), ech]
  refine ⟨cs_in32 (by omega), nm_e (cs_yfindE hK hc (Or.inl rfl) ew ?_)⟩
  rw [cs_cl (show c < 64 by omega), el]
  exact ⟨cs_in8 (by omega), br_t (by decide) (br_t (by decide) ⟨cs_in8 (by omega), br_f ec (cs_ycompI (cs_K_L hK) hp (cs_K_id hK (by omega) hs) (cs_yend (x := 0) hp pk_us h))⟩)⟩
theorem cs_yR3 {a : Nat} (hK : cs_K P C L st cn kd ch fs li) (hc : c < C) (hp : p < 8) (hi : i < 4) (ech : ch (4 * p + i) = nI c) (hs : ¬ st p = 2) (el : ln c = 0) (ha : a < 32) (ew : cs_fw 0 (cs_ws ch kd (nI c) 0 cn li L 0) 0 = nI a)
    (h : post 1 (nI P, nI C, ub, nI Z, nI (cs_lv (nI (a / 4)) L 0 0 li).1, upd (upd st (a / 4) 3) p 3, upd (upd o2 (a / 4) 1) p 1, upd (upd f2 (a / 4) (nI (a % 4))) p (nI i), fs, upd (upd r2 (a / 4) (vl a)) p (vl a), upd (upd d2 (a / 4) (se c + 1)) p (re c + 1), rm, cn, kd, ch, vl, ow, ln, b2, upd se c (se c + 1), upd re c (re c + 1), cl, (cs_lv (nI (a / 4)) L 0 0 li).2)) : wpY_receive post (nI P, nI C, ub, nI Z, nI L, st, o2, f2, fs, r2, d2, rm, cn, kd, ch, vl, ow, ln, b2, se, re, cl, li) (nI p) (nI i) := by
  have hC := cs_K_C hK
  have hK1 := cs_K_done hK (a / 4) (by omega)
  have hs1 : ¬ upd st (a / 4) 3 p = 2 := by
    by_cases z : p = a / 4
    · rw [z, pk_us]; decide
    · rw [pk_un z]; exact hs
  unfold wpY_receive
  dsimp only
  rw [cs_m4, cs_cl (show 4 * p + i < 64 by omega), ech]
  refine ⟨cs_in32 (by omega), nm_e (cs_yfindE hK hc (Or.inl rfl) ew ?_)⟩
  rw [cs_cl (show c < 64 by omega), el, cs_cl (show a < 64 by omega), cs_r4 (show a < 64 by omega), cs_d4 (show a < 64 by omega)]
  refine ⟨cs_in8 (by omega), br_t (by decide) (br_f (cs_pos (by omega)) ⟨cs_in8 (by omega), cs_in8 (by omega), nm_e ⟨cs_in8 (by omega), cs_in8 (by omega), nm_e ⟨by decide, by decide, cs_in32 ha, cs_in8 (by omega), ?_⟩⟩⟩)⟩
  rw [pk_us]
  refine cs_ycomp (cs_K_L hK) (by omega) ?_
  dsimp only
  rw [pk_us]
  exact ⟨cs_in32 ha, cs_in8 (by omega), cs_ycompI (cs_K_L hK1) hp (cs_K_id hK1 (by omega) hs1) (cs_yend (x := 0) hp pk_us h)⟩
/-- the shifting loop, to its end -/
theorem cs_yshift {l : Nat} {r x5 : Int32} (hc : c < 8) (hl : l < 8) (el : ln c = nI l) : ∀ (d k : Nat) (b : Nat → Int32), k + d = l →
    wY_receive_63 post (nI p) (nI i) (nI c) r x5 (nI P) (nI C) ub (nI Z) (nI L) (0 + 1) (nI l) st o2 f2 fs r2 d2 rm cn kd ch vl ow ln (cs_sh c d k b) se re cl li → wY_receive_63 post (nI p) (nI i) (nI c) r x5 (nI P) (nI C) ub (nI Z) (nI L) (d + 1) (nI k) st o2 f2 fs r2 d2 rm cn kd ch vl ow ln b se re cl li := by
  intro d
  induction d with
  | zero =>
    intro k b hk h
    have e : k = l := by omega
    subst e
    exact h
  | succ d ih =>
    intro k b hk h
    refine ⟨cs_in8 hc, ?_⟩
    rw [cs_cl (show c < 64 by omega), el, cs_m8, nI_1, nI_1, cs_cl (show 8 * c + k < 64 by omega), cs_cl (show 8 * c + k + 1 < 64 by omega)]
    exact br_f (nI_ge (by omega) (by omega)) ⟨cs_in64 (by omega), cs_in64 (by omega), nm_e (nm_e (ih (k + 1) _ (by omega) h))⟩
theorem cs_yR4 {l : Nat} (hK : cs_K P C L st cn kd ch fs li) (hc : c < C) (hp : p < 8) (hi : i < 4) (ech : ch (4 * p + i) = nI c) (hs : ¬ st p = 2) (hl : l < 8) (el : ln c = nI (l + 1)) (ew : cs_fw 0 (cs_ws ch kd (nI c) 0 cn li L 0) 0 = -4)
    (g : post 1 (nI P, nI C, ub, nI Z, nI L, upd st p 3, upd o2 p 1, upd f2 p (nI i), fs, upd r2 p (b2 (8 * c)), upd d2 p (re c + 1), rm, cn, kd, ch, vl, ow, upd ln c (nI l), cs_sh c l 0 b2, se, upd re c (re c + 1), cl, li)) : wpY_receive post (nI P, nI C, ub, nI Z, nI L, st, o2, f2, fs, r2, d2, rm, cn, kd, ch, vl, ow, ln, b2, se, re, cl, li) (nI p) (nI i) := by
  have hC := cs_K_C hK
  unfold wpY_receive
  dsimp only
  rw [cs_m4, cs_cl (show 4 * p + i < 64 by omega), ech]
  refine ⟨cs_in32 (by omega), nm_e (cs_yfindE hK hc (Or.inl rfl) ew ?_)⟩
  rw [cs_cl (show c < 64 by omega), el, cs_m80, cs_cl (show 8 * c < 64 by omega), nI_pred]
  refine ⟨cs_in8 (by omega), br_f (nI_nle (by omega) (by omega)) ⟨cs_in64 (by omega), nm_e ⟨cs_in8 (by omega), cs_in8 (by omega), nm_e ⟨cs_in8 (by omega), cs_in8 (by omega), nm_e ⟨l + 1, ?_⟩⟩⟩⟩⟩
  refine cs_yshift (l := l) (by omega) hl pk_us l 0 _ (by omega) ?_
  refine ⟨cs_in8 (by omega), ?_⟩
  rw [cs_cl (show c < 64 by omega), pk_us, pk_us]
  refine br_t (nI_le (Nat.le_refl _) (by omega)) ⟨cs_in8 (by omega), cs_ycompI (cs_K_L hK) hp (cs_K_id hK (by omega) hs) ?_⟩
  exact br_t (by decide) (cs_yend (x := 0) hp pk_us g)
theorem cs_yR5 {l a : Nat} (hK : cs_K P C L st cn kd ch fs li) (hc : c < C) (hp : p < 8) (hi : i < 4) (ech : ch (4 * p + i) = nI c) (hs : ¬ st p = 2) (hl : l < 8) (el : ln c = nI (l + 1)) (ha : a < 32) (hne : p ≠ a / 4) (ew : cs_fw 0 (cs_ws ch kd (nI c) 0 cn li L 0) 0 = nI a)
    (g : post 1 (nI P, nI C, ub, nI Z, nI (cs_lv (nI (a / 4)) L 0 0 li).1, upd (upd st p 3) (a / 4) 3, upd (upd o2 p 1) (a / 4) 1, upd (upd f2 p (nI i)) (a / 4) (nI (a % 4)), fs, upd (upd r2 p (b2 (8 * c))) (a / 4) (vl a), upd (upd d2 p (re c + 1)) (a / 4) (se c + 1), rm, cn, kd, ch, vl, ow, upd (upd ln c (nI l)) c (nI (l + 1)), upd (cs_sh c l 0 b2) (8 * c + l) (vl a), upd se c (se c + 1), upd re c (re c + 1), cl, (cs_lv (nI (a / 4)) L 0 0 li).2)) : wpY_receive post (nI P, nI C, ub, nI Z, nI L, st, o2, f2, fs, r2, d2, rm, cn, kd, ch, vl, ow, ln, b2, se, re, cl, li) (nI p) (nI i) := by
  have e3 : upd (upd st p 3) (a / 4) 3 p = 3 := by rw [pk_un hne, pk_us]
  have hC := cs_K_C hK
  unfold wpY_receive
  dsimp only
  rw [cs_m4, cs_cl (show 4 * p + i < 64 by omega), ech]
  refine ⟨cs_in32 (by omega), nm_e (cs_yfindE hK hc (Or.inl rfl) ew ?_)⟩
  rw [cs_cl (show c < 64 by omega), el, cs_m80, cs_cl (show 8 * c < 64 by omega), nI_pred]
  refine ⟨cs_in8 (by omega), br_f (nI_nle (by omega) (by omega)) ⟨cs_in64 (by omega), nm_e ⟨cs_in8 (by omega), cs_in8 (by omega), nm_e ⟨cs_in8 (by omega), cs_in8 (by omega), nm_e ⟨l + 1, ?_⟩⟩⟩⟩⟩
  refine cs_yshift (l := l) (by omega) hl pk_us l 0 _ (by omega) ?_
  refine ⟨cs_in8 (by omega), ?_⟩
  rw [cs_cl (show c < 64 by omega), pk_us, pk_us, cs_cl (show a < 64 by omega), cs_r4 (show a < 64 by omega), cs_d4 (show a < 64 by omega)]
  refine br_t (nI_le (Nat.le_refl _) (by omega)) ⟨cs_in8 (by omega), cs_ycompI (cs_K_L hK) hp (cs_K_id hK (by omega) hs) ?_⟩
  refine br_f (cs_pos (by omega)) ⟨cs_in32 ha, cs_yapp (by omega) hl pk_us ?_⟩
  dsimp only
  rw [pk_us]
  refine ⟨by decide, by decide, cs_in32 ha, cs_in8 (by omega), cs_ycomp (cs_K_L hK) (by omega) ?_⟩
  exact cs_yend (x := 0) hp e3 g
/-! send -/
theorem cs_yS1 {w : Int32} (hK : cs_K P C L st cn kd ch fs li) (hc : c < C) (hp : p < 8) (hi : i < 4) (ech : ch (4 * p + i) = nI c) (hs : ¬ st p = 2) (ew : cs_fw 0 (cs_ws ch kd (nI c) 1 cn li L 0) 0 = w) (ec : ¬ cl c = 0)
    (h : post 1 (nI P, nI C, ub, nI Z, nI L, upd st p 3, upd o2 p 2, upd f2 p (nI i), fs, upd r2 p 0, upd d2 p 0, rm, cn, kd, ch, vl, ow, ln, b2, se, re, cl, li)) : wpY_send post (nI P, nI C, ub, nI Z, nI L, st, o2, f2, fs, r2, d2, rm, cn, kd, ch, vl, ow, ln, b2, se, re, cl, li) (nI p) (nI i) := by
  have hC := cs_K_C hK
  unfold wpY_send
  dsimp only
  rw [cs_m4, cs_cl (show 4 * p + i < 64 by omega), ech]
  refine ⟨cs_in32 (by omega), nm_e ⟨cs_in32 (by omega), nm_e (cs_yfindE hK hc (Or.inr rfl) ew ?_)⟩⟩
  rw [cs_cl (show c < 64 by omega)]
  exact ⟨cs_in8 (by omega), br_f ec (cs_ycompI (cs_K_L hK) hp (cs_K_id hK (by omega) hs) (cs_ysend hp pk_us h))⟩
theorem cs_yS2 {a : Nat} (hK : cs_K P C L st cn kd ch fs li) (hc : c < C) (hp : p < 8) (hi : i < 4) (ech : ch (4 * p + i) = nI c) (hs : ¬ st p = 2) (ha : a < 32) (hne : p ≠ a / 4) (ew : cs_fw 0 (cs_ws ch kd (nI c) 1 cn li L 0) 0 = nI a) (ec : cl c = 0)
    (h : post 1 (nI P, nI C, ub, nI Z, nI (cs_lv (nI (a / 4)) L 0 0 li).1, upd (upd st p 3) (a / 4) 3, upd (upd o2 p 1) (a / 4) 1, upd (upd f2 p (nI i)) (a / 4) (nI (a % 4)), fs, upd (upd r2 p (vl (4 * p + i))) (a / 4) (vl (4 * p + i)), upd (upd d2 p (se c + 1)) (a / 4) (re c + 1), rm, cn, kd, ch, vl, ow, ln, b2, upd se c (se c + 1), upd re c (re c + 1), cl, (cs_lv (nI (a / 4)) L 0 0 li).2)) : wpY_send post (nI P, nI C, ub, nI Z, nI L, st, o2, f2, fs, r2, d2, rm, cn, kd, ch, vl, ow, ln, b2, se, re, cl, li) (nI p) (nI i) := by
  have e3 : upd (upd st p 3) (a / 4) 3 p = 3 := by rw [pk_un hne, pk_us]
  have hC := cs_K_C hK
  unfold wpY_send
  dsimp only
  rw [cs_m4, cs_cl (show 4 * p + i < 64 by omega), ech]
  refine ⟨cs_in32 (by omega), nm_e ⟨cs_in32 (by omega), nm_e (cs_yfindE hK hc (Or.inr rfl) ew ?_)⟩⟩
  rw [cs_cl (show c < 64 by omega), cs_r4 (show a < 64 by omega), cs_d4 (show a < 64 by omega)]
  refine ⟨cs_in8 (by omega), br_t ec (br_f (cs_pos (by omega)) ⟨cs_in8 (by omega), cs_in8 (by omega), nm_e ⟨cs_in8 (by omega), cs_in8 (by omega), nm_e ⟨cs_in8 (by omega), ?_⟩⟩⟩)⟩
  rw [pk_us]
  refine cs_ycompI (cs_K_L hK) hp (cs_K_id hK (by omega) hs) ?_
  dsimp only
  rw [pk_us]
  refine ⟨by decide, by decide, cs_in8 (by omega), cs_ycomp (cs_K_L hK) (by omega) ?_⟩
  exact cs_ysend hp e3 h
theorem cs_yS3 {x : Int32} (hK : cs_K P C L st cn kd ch fs li) (hc : c < C) (hp : p < 8) (hi : i < 4) (ech : ch (4 * p + i) = nI c) (h3 : ¬ st p = 3) (ew : cs_fw 0 (cs_ws ch kd (nI c) 1 cn li L 0) 0 = -4) (ec : cl c = 0)
    (hx : (ub ≤ nI c → x = nI Z) ∧ (¬ ub ≤ nI c → x = 0)) (hl : x ≤ ln c) (h : post 0 (nI P, nI C, ub, nI Z, nI L, st, o2, f2, fs, r2, d2, rm, cn, kd, ch, vl, ow, ln, b2, se, re, cl, li)) : wpY_send post (nI P, nI C, ub, nI Z, nI L, st, o2, f2, fs, r2, d2, rm, cn, kd, ch, vl, ow, ln, b2, se, re, cl, li) (nI p) (nI i) := by
  have hC := cs_K_C hK
  unfold wpY_send
  dsimp only
  rw [cs_m4, cs_cl (show 4 * p + i < 64 by omega), ech]
  refine ⟨cs_in32 (by omega), nm_e ⟨cs_in32 (by omega), nm_e (cs_yfindE hK hc (Or.inr rfl) ew ?_)⟩⟩
  rw [cs_cl (show c < 64 by omega)]
  refine ⟨cs_in8 (by omega), br_t ec (br_t (by decide) ⟨cs_in8 (by omega), ?_⟩)⟩
  unfold wpY_capacityOf
  refine br_c (fun z => ?_) (fun z => ?_)
  · exact br_t (by rw [← hx.1 z]; exact hl) (cs_ysend0 hp h3 h)
  · exact br_t (by rw [← hx.2 z]; exact hl) (cs_ysend0 hp h3 h)
theorem cs_yS4 {x : Int32} {l : Nat} (hK : cs_K P C L st cn kd ch fs li) (hc : c < C) (hp : p < 8) (hi : i < 4) (ech : ch (4 * p + i) = nI c) (hs : ¬ st p = 2) (ew : cs_fw 0 (cs_ws ch kd (nI c) 1 cn li L 0) 0 = -4) (ec : cl c = 0)
    (hx : (ub ≤ nI c → x = nI Z) ∧ (¬ ub ≤ nI c → x = 0)) (hl : ¬ x ≤ ln c) (hl8 : l < 8) (el : ln c = nI l)
    (g : post 1 (nI P, nI C, ub, nI Z, nI L, upd st p 3, upd o2 p 1, upd f2 p (nI i), fs, upd r2 p (vl (4 * p + i)), upd d2 p (se c + 1), rm, cn, kd, ch, vl, ow, upd ln c (nI (l + 1)), upd b2 (8 * c + l) (vl (4 * p + i)), upd se c (se c + 1), re, cl, li)) : wpY_send post (nI P, nI C, ub, nI Z, nI L, st, o2, f2, fs, r2, d2, rm, cn, kd, ch, vl, ow, ln, b2, se, re, cl, li) (nI p) (nI i) := by
  have hC := cs_K_C hK
  unfold wpY_send
  dsimp only
  rw [cs_m4, cs_cl (show 4 * p + i < 64 by omega), ech]
  refine ⟨cs_in32 (by omega), nm_e ⟨cs_in32 (by omega), nm_e (cs_yfindE hK hc (Or.inr rfl) ew ?_)⟩⟩
  rw [cs_cl (show c < 64 by omega)]
  refine ⟨cs_in8 (by omega), br_t ec (br_t (by decide) ⟨cs_in8 (by omega), ?_⟩)⟩
  unfold wpY_capacityOf
  refine br_c (fun z => ?_) (fun z => ?_)
  · refine br_f (by rw [← hx.1 z]; exact hl) (cs_yapp (by omega) hl8 el ?_)
    dsimp only
    rw [pk_us]
    exact ⟨cs_in8 (by omega), cs_ycompI (cs_K_L hK) hp (cs_K_id hK (by omega) hs) (cs_ysend hp pk_us g)⟩
  · refine br_f (by rw [← hx.2 z]; exact hl) (cs_yapp (by omega) hl8 el ?_)
    dsimp only
    rw [pk_us]
    exact ⟨cs_in8 (by omega), cs_ycompI (cs_K_L hK) hp (cs_K_id hK (by omega) hs) (cs_ysend hp pk_us g)⟩
end
end
section
def cs_Rel (u : SX) (v : SY) : Prop := ∃ (P C L Z : Nat) (ub : Int32) (st o1 f1 r1 d1 rm fs cn kd ch vl cp ow cl se re hd ln b1 li o2 f2 r2 d2 b2 : Nat → Int32),
  u = (nI P, nI C, nI L, st, o1, f1, r1, d1, rm, fs, cn, kd, ch, vl, cp, ow, cl, se, re, hd, ln, b1, li) ∧ v = (nI P, nI C, ub, nI Z, nI L, st, o2, f2, fs, r2, d2, rm, cn, kd, ch, vl, ow, ln, b2, se, re, cl, li) ∧ cs_K P C L st cn kd ch fs li ∧ cs_B Z ub cp hd ln b1 b2 ∧ cs_D st o1 f1 r1 d1 o2 f2 r2 d2
theorem cs_el {Q : SX → SY → Prop} {u : SX} {v : SY} (h : ∀ (P C L Z : Nat) (ub : Int32) (st o1 f1 r1 d1 rm fs cn kd ch vl cp ow cl se re hd ln b1 li o2 f2 r2 d2 b2 : Nat → Int32),
    cs_K P C L st cn kd ch fs li → cs_B Z ub cp hd ln b1 b2 → cs_D st o1 f1 r1 d1 o2 f2 r2 d2 → Q (nI P, nI C, nI L, st, o1, f1, r1, d1, rm, fs, cn, kd, ch, vl, cp, ow, cl, se, re, hd, ln, b1, li) (nI P, nI C, ub, nI Z, nI L, st, o2, f2, fs, r2, d2, rm, cn, kd, ch, vl, ow, ln, b2, se, re, cl, li)) (I : cs_Rel u v) : Q u v :=
  Exists.elim I fun P I => Exists.elim I fun C I => Exists.elim I fun L I => Exists.elim I fun Z I => Exists.elim I fun ub I =>
  Exists.elim I fun st I => Exists.elim I fun o1 I => Exists.elim I fun f1 I => Exists.elim I fun r1 I => Exists.elim I fun d1 I => Exists.elim I fun rm I =>
  Exists.elim I fun fs I => Exists.elim I fun cn I => Exists.elim I fun kd I => Exists.elim I fun ch I => Exists.elim I fun vl I => Exists.elim I fun cp I =>
  Exists.elim I fun ow I => Exists.elim I fun cl I => Exists.elim I fun se I => Exists.elim I fun re I => Exists.elim I fun hd I => Exists.elim I fun ln I =>
  Exists.elim I fun b1 I => Exists.elim I fun li I => Exists.elim I fun o2 I => Exists.elim I fun f2 I => Exists.elim I fun r2 I => Exists.elim I fun d2 I => Exists.elim I fun b2 I =>
  I.1 ▸ I.2.1 ▸ h P C L Z ub st o1 f1 r1 d1 rm fs cn kd ch vl cp ow cl se re hd ln b1 li o2 f2 r2 d2 b2 I.2.2.1 I.2.2.2.1 I.2.2.2.2
section
variable {P C L Z : Nat} {ub : Int32} {st o1 f1 r1 d1 rm fs cn kd ch vl cp ow cl se re hd ln b1 li o2 f2 r2 d2 b2 : Nat → Int32}
theorem cs_mk (hK : cs_K P C L st cn kd ch fs li) (hB : cs_B Z ub cp hd ln b1 b2) (hD : cs_D st o1 f1 r1 d1 o2 f2 r2 d2) : cs_Rel (nI P, nI C, nI L, st, o1, f1, r1, d1, rm, fs, cn, kd, ch, vl, cp, ow, cl, se, re, hd, ln, b1, li) (nI P, nI C, ub, nI Z, nI L, st, o2, f2, fs, r2, d2, rm, cn, kd, ch, vl, ow, ln, b2, se, re, cl, li) :=
  ⟨P, C, L, Z, ub, st, o1, f1, r1, d1, rm, fs, cn, kd, ch, vl, cp, ow, cl, se, re, hd, ln, b1, li, o2, f2, r2, d2, b2, rfl, rfl, hK, hB, hD⟩
variable {p i c : Nat}
theorem cs_nb01 {r : Int32} (h : r = 0 ∨ r = 1) : narrow .boolean (.int r) = .int r := by
  rcases h with e | e
  · subst e; rfl
  · subst e; rfl
theorem cs_xfR {r : Int32} {u' : SX} (hr : r = 0 ∨ r = 1) (hp : p < 8) (hi : i < 4) (ek : kd (4 * p + i) = 1) (ec : ch (4 * p + i) = nI c)
    (H : ∀ post : Int32 → SX → Prop, post r u' → wpX_fireReceive post (nI P, nI C, nI L, st, o1, f1, r1, d1, rm, fs, cn, kd, ch, vl, cp, ow, cl, se, re, hd, ln, b1, li) (nI p) (nI i) (nI c)) (post : Int32 → SX → Prop) (h : post r u') : wpX_fire post (nI P, nI C, nI L, st, o1, f1, r1, d1, rm, fs, cn, kd, ch, vl, cp, ow, cl, se, re, hd, ln, b1, li) (nI p) (nI i) := by
  unfold wpX_fire
  dsimp only
  rw [cs_m4]
  refine nm_e ?_
  rw [cs_cl (show 4 * p + i < 64 by omega), ek, ec]
  exact ⟨cs_in32 (by omega), br_t rfl ⟨cs_in32 (by omega), H _ ⟨cs_nb01 hr, h⟩⟩⟩
theorem cs_xfS {r : Int32} {u' : SX} (hr : r = 0 ∨ r = 1) (hp : p < 8) (hi : i < 4) (ek : kd (4 * p + i) = 0) (ec : ch (4 * p + i) = nI c)
    (H : ∀ post : Int32 → SX → Prop, post r u' → wpX_fireSend post (nI P, nI C, nI L, st, o1, f1, r1, d1, rm, fs, cn, kd, ch, vl, cp, ow, cl, se, re, hd, ln, b1, li) (nI p) (nI i) (nI c) (vl (4 * p + i))) (post : Int32 → SX → Prop) (h : post r u') : wpX_fire post (nI P, nI C, nI L, st, o1, f1, r1, d1, rm, fs, cn, kd, ch, vl, cp, ow, cl, se, re, hd, ln, b1, li) (nI p) (nI i) := by
  unfold wpX_fire
  dsimp only
  rw [cs_m4]
  refine nm_e ?_
  rw [cs_cl (show 4 * p + i < 64 by omega), ek, ec]
  exact ⟨cs_in32 (by omega), br_f (by decide) ⟨cs_in32 (by omega), cs_in32 (by omega), H _ ⟨cs_nb01 hr, h⟩⟩⟩
theorem cs_yfR {r : Int32} {v' : SY} (hr : r = 0 ∨ r = 1) (hp : p < 8) (hi : i < 4) (ek : kd (4 * p + i) = 1)
    (H : ∀ post : Int32 → SY → Prop, post r v' → wpY_receive post (nI P, nI C, ub, nI Z, nI L, st, o2, f2, fs, r2, d2, rm, cn, kd, ch, vl, ow, ln, b2, se, re, cl, li) (nI p) (nI i)) (post : Int32 → SY → Prop) (h : post r v') : wpY_tryCase post (nI P, nI C, ub, nI Z, nI L, st, o2, f2, fs, r2, d2, rm, cn, kd, ch, vl, ow, ln, b2, se, re, cl, li) (nI p) (nI i) := by
  unfold wpY_tryCase
  dsimp only
  rw [cs_m4, cs_cl (show 4 * p + i < 64 by omega), ek]
  exact ⟨cs_in32 (by omega), br_f (by decide) (H _ ⟨cs_nb01 hr, h⟩)⟩
theorem cs_yfS {r : Int32} {v' : SY} (hr : r = 0 ∨ r = 1) (hp : p < 8) (hi : i < 4) (ek : kd (4 * p + i) = 0)
    (H : ∀ post : Int32 → SY → Prop, post r v' → wpY_send post (nI P, nI C, ub, nI Z, nI L, st, o2, f2, fs, r2, d2, rm, cn, kd, ch, vl, ow, ln, b2, se, re, cl, li) (nI p) (nI i)) (post : Int32 → SY → Prop) (h : post r v') : wpY_tryCase post (nI P, nI C, ub, nI Z, nI L, st, o2, f2, fs, r2, d2, rm, cn, kd, ch, vl, ow, ln, b2, se, re, cl, li) (nI p) (nI i) := by
  unfold wpY_tryCase
  dsimp only
  rw [cs_m4, cs_cl (show 4 * p + i < 64 by omega), ek]
  exact ⟨cs_in32 (by omega), br_t rfl (H _ ⟨cs_nb01 hr, h⟩)⟩
/-- one case tried by both: nothing changes, or it fires and the states are related again -/
theorem cs_fire {n : Nat} (hK : cs_K P C L st cn kd ch fs li) (hB : cs_B Z ub cp hd ln b1 b2) (hD : cs_D st o1 f1 r1 d1 o2 f2 r2 d2) (hp : p < P) (hs : st p = 1) (hn : n ≤ 4) (hi : i < n) :
    ∃ (r : Int32) (u' : SX) (v' : SY), (r = 0 ∧ u' = (nI P, nI C, nI L, st, o1, f1, r1, d1, rm, fs, cn, kd, ch, vl, cp, ow, cl, se, re, hd, ln, b1, li) ∧ v' = (nI P, nI C, ub, nI Z, nI L, st, o2, f2, fs, r2, d2, rm, cn, kd, ch, vl, ow, ln, b2, se, re, cl, li) ∨ r = 1 ∧ cs_Rel u' v') ∧
      (∀ post : Int32 → SX → Prop, post r u' → wpX_fire post (nI P, nI C, nI L, st, o1, f1, r1, d1, rm, fs, cn, kd, ch, vl, cp, ow, cl, se, re, hd, ln, b1, li) (nI p) (nI i)) ∧ (∀ post : Int32 → SY → Prop, post r v' → wpY_tryCase post (nI P, nI C, ub, nI Z, nI L, st, o2, f2, fs, r2, d2, rm, cn, kd, ch, vl, ow, ln, b2, se, re, cl, li) (nI p) (nI i)) := by
  have hP := cs_K_P hK
  have hC := cs_K_C hK
  have hp8 : p < 8 := by omega
  have hi4 : i < 4 := by omega
  have s2 : ¬ st p = 2 := by rw [hs]; decide
  have s3 : ¬ st p = 3 := by rw [hs]; decide
  obtain ⟨c, hc, ech⟩ := cs_K_ch hK (4 * p + i)
  have hc8 : c < 8 := by omega
  obtain ⟨h, l, hh, hl, eh, el, _⟩ := cs_B_at hB hc8
  rcases cs_K_kd hK (4 * p + i) with ek | ek
  · by_cases ec : cl c = 0
    · rcases cs_K_fw hK (nI c) 1 0 with ew | ⟨a, ha, haP, has, ew⟩
      · have hx := hB.2.1 c hc8
        by_cases hle : cp c ≤ ln c
        · exact ⟨0, (nI P, nI C, nI L, st, o1, f1, r1, d1, rm, fs, cn, kd, ch, vl, cp, ow, cl, se, re, hd, ln, b1, li), (nI P, nI C, ub, nI Z, nI L, st, o2, f2, fs, r2, d2, rm, cn, kd, ch, vl, ow, ln, b2, se, re, cl, li), Or.inl ⟨rfl, rfl, rfl⟩, cs_xfS (Or.inl rfl) hp8 hi4 ek ech (fun post g => cs_xS3 hK hc ec ew hle g),
            cs_yfS (Or.inl rfl) hp8 hi4 ek (fun post g => cs_yS3 hK hc hp8 hi4 ech s3 ew ec hx hle g)⟩
        · have hl8 : l < 8 := by
            have hZ := hB.1
            by_cases z : ub ≤ nI c
            · rw [hx.1 z, el, nI_leI (by omega) (by omega)] at hle; omega
            · rw [hx.2 z, el] at hle; exact absurd (cs_pos' (by omega)) hle
          exact ⟨1, (nI P, nI C, nI L, upd st p 3, upd o1 p 1, upd f1 p (nI i), upd r1 p (vl (4 * p + i)), upd d1 p (se c + 1), rm, fs, cn, kd, ch, vl, cp, ow, cl, upd se c (se c + 1), re, hd, upd ln c (nI (l + 1)), upd b1 (8 * c + (h + l) % 8) (vl (4 * p + i)), li),
            (nI P, nI C, ub, nI Z, nI L, upd st p 3, upd o2 p 1, upd f2 p (nI i), fs, upd r2 p (vl (4 * p + i)), upd d2 p (se c + 1), rm, cn, kd, ch, vl, ow, upd ln c (nI (l + 1)), upd b2 (8 * c + l) (vl (4 * p + i)), upd se c (se c + 1), re, cl, li),
            Or.inr ⟨rfl, cs_mk (cs_K_doneI hK (by omega) s2) (cs_B_app hB hc8 hh hl8 eh el _) (cs_D_done hD p (Or.inl rfl))⟩,
            cs_xfS (Or.inr rfl) hp8 hi4 ek ech (fun post g => cs_xS4 hK hc hp8 s2 ec ew hle hh hl8 eh el g),
            cs_yfS (Or.inr rfl) hp8 hi4 ek (fun post g => cs_yS4 hK hc hp8 hi4 ech s2 ew ec hx hle hl8 el g)⟩
      · have hne : p ≠ a / 4 := fun e => by rw [← e] at has; exact s2 has
        exact ⟨1, (nI P, nI C, nI (cs_lv (nI (a / 4)) L 0 0 li).1, upd (upd st p 3) (a / 4) 3, upd (upd o1 p 1) (a / 4) 1, upd (upd f1 p (nI i)) (a / 4) (nI (a % 4)), upd (upd r1 p (vl (4 * p + i))) (a / 4) (vl (4 * p + i)), upd (upd d1 p (se c + 1)) (a / 4) (re c + 1), rm, fs, cn, kd, ch, vl, cp, ow, cl, upd se c (se c + 1), upd re c (re c + 1), hd, ln, b1, (cs_lv (nI (a / 4)) L 0 0 li).2),
          (nI P, nI C, ub, nI Z, nI (cs_lv (nI (a / 4)) L 0 0 li).1, upd (upd st p 3) (a / 4) 3, upd (upd o2 p 1) (a / 4) 1, upd (upd f2 p (nI i)) (a / 4) (nI (a % 4)), fs, upd (upd r2 p (vl (4 * p + i))) (a / 4) (vl (4 * p + i)), upd (upd d2 p (se c + 1)) (a / 4) (re c + 1), rm, cn, kd, ch, vl, ow, ln, b2, upd se c (se c + 1), upd re c (re c + 1), cl, (cs_lv (nI (a / 4)) L 0 0 li).2),
          Or.inr ⟨rfl, cs_mk (cs_K_done (cs_K_doneI hK (by omega) s2) (a / 4) (by omega)) hB (cs_D_done (cs_D_done hD p (Or.inl rfl)) (a / 4) (Or.inl rfl))⟩,
          cs_xfS (Or.inr rfl) hp8 hi4 ek ech (fun post g => cs_xS2 hK hc hp8 s2 ec ha ew g),
          cs_yfS (Or.inr rfl) hp8 hi4 ek (fun post g => cs_yS2 hK hc hp8 hi4 ech s2 ha hne ew ec g)⟩
    · exact ⟨1, (nI P, nI C, nI L, upd st p 3, upd o1 p 2, upd f1 p (nI i), upd r1 p 0, upd d1 p 0, rm, fs, cn, kd, ch, vl, cp, ow, cl, se, re, hd, ln, b1, li), (nI P, nI C, ub, nI Z, nI L, upd st p 3, upd o2 p 2, upd f2 p (nI i), fs, upd r2 p 0, upd d2 p 0, rm, cn, kd, ch, vl, ow, ln, b2, se, re, cl, li),
        Or.inr ⟨rfl, cs_mk (cs_K_doneI hK (by omega) s2) hB (cs_D_done hD p (Or.inr (Or.inl ⟨rfl, rfl, rfl⟩)))⟩,
        cs_xfS (Or.inr rfl) hp8 hi4 ek ech (fun post g => cs_xS1 hK hc hp8 s2 ec g),
        cs_yfS (Or.inr rfl) hp8 hi4 ek (fun post g => cs_yS1 hK hc hp8 hi4 ech s2 rfl ec g)⟩
  · rcases cs_K_fw hK (nI c) 0 0 with ew | ⟨a, ha, haP, has, ew⟩
    · cases l with
      | zero =>
        have el0 : ln c = 0 := el
        by_cases ec : cl c = 0
        · exact ⟨0, (nI P, nI C, nI L, st, o1, f1, r1, d1, rm, fs, cn, kd, ch, vl, cp, ow, cl, se, re, hd, ln, b1, li), (nI P, nI C, ub, nI Z, nI L, st, o2, f2, fs, r2, d2, rm, cn, kd, ch, vl, ow, ln, b2, se, re, cl, li), Or.inl ⟨rfl, rfl, rfl⟩, cs_xfR (Or.inl rfl) hp8 hi4 ek ech (fun post g => cs_xR1 hK hc el0 ew ec g),
            cs_yfR (Or.inl rfl) hp8 hi4 ek (fun post g => cs_yR1 hK hc hp8 hi4 ech s3 el0 ew ec g)⟩
        · exact ⟨1, (nI P, nI C, nI L, upd st p 3, upd o1 p 2, upd f1 p (nI i), upd r1 p 0, upd d1 p 0, rm, fs, cn, kd, ch, vl, cp, ow, cl, se, re, hd, ln, b1, li), (nI P, nI C, ub, nI Z, nI L, upd st p 3, upd o2 p 2, upd f2 p (nI i), fs, upd r2 p 0, upd d2 p 0, rm, cn, kd, ch, vl, ow, ln, b2, se, re, cl, li),
            Or.inr ⟨rfl, cs_mk (cs_K_doneI hK (by omega) s2) hB (cs_D_done hD p (Or.inr (Or.inl ⟨rfl, rfl, rfl⟩)))⟩,
            cs_xfR (Or.inr rfl) hp8 hi4 ek ech (fun post g => cs_xR2 hK hc hp8 s2 el0 ew ec g),
            cs_yfR (Or.inr rfl) hp8 hi4 ek (fun post g => cs_yR2 hK hc hp8 hi4 ech s2 el0 ew ec g)⟩
      | succ l =>
        obtain ⟨hB', hv⟩ := cs_B_rem hB hc8 hh hl eh el
        exact ⟨1, (nI P, nI C, nI L, upd st p 3, upd o1 p 1, upd f1 p (nI i), upd r1 p (b1 (8 * c + h)), upd d1 p (re c + 1), rm, fs, cn, kd, ch, vl, cp, ow, cl, se, upd re c (re c + 1), upd hd c (nI ((h + 1) % 8)), upd ln c (nI l), b1, li),
          (nI P, nI C, ub, nI Z, nI L, upd st p 3, upd o2 p 1, upd f2 p (nI i), fs, upd r2 p (b1 (8 * c + h)), upd d2 p (re c + 1), rm, cn, kd, ch, vl, ow, upd ln c (nI l), cs_sh c l 0 b2, se, upd re c (re c + 1), cl, li),
          Or.inr ⟨rfl, cs_mk (cs_K_doneI hK (by omega) s2) hB' (cs_D_done hD p (Or.inl rfl))⟩,
          cs_xfR (Or.inr rfl) hp8 hi4 ek ech (fun post g => cs_xR4 hK hc hp8 s2 hh (by omega) eh el ew g),
          cs_yfR (Or.inr rfl) hp8 hi4 ek (fun post g => cs_yR4 hK hc hp8 hi4 ech s2 (by omega) el ew (by rw [← hv]; exact g))⟩
    · have hne : p ≠ a / 4 := fun e => by rw [← e] at has; exact s2 has
      cases l with
      | zero =>
        have el0 : ln c = 0 := el
        have s21 : ¬ upd st (a / 4) 3 p = 2 := by rw [pk_un hne]; exact s2
        exact ⟨1, (nI P, nI C, nI (cs_lv (nI (a / 4)) L 0 0 li).1, upd (upd st (a / 4) 3) p 3, upd (upd o1 (a / 4) 1) p 1, upd (upd f1 (a / 4) (nI (a % 4))) p (nI i), upd (upd r1 (a / 4) (vl a)) p (vl a), upd (upd d1 (a / 4) (se c + 1)) p (re c + 1), rm, fs, cn, kd, ch, vl, cp, ow, cl, upd se c (se c + 1), upd re c (re c + 1), hd, ln, b1, (cs_lv (nI (a / 4)) L 0 0 li).2),
          (nI P, nI C, ub, nI Z, nI (cs_lv (nI (a / 4)) L 0 0 li).1, upd (upd st (a / 4) 3) p 3, upd (upd o2 (a / 4) 1) p 1, upd (upd f2 (a / 4) (nI (a % 4))) p (nI i), fs, upd (upd r2 (a / 4) (vl a)) p (vl a), upd (upd d2 (a / 4) (se c + 1)) p (re c + 1), rm, cn, kd, ch, vl, ow, ln, b2, upd se c (se c + 1), upd re c (re c + 1), cl, (cs_lv (nI (a / 4)) L 0 0 li).2),
          Or.inr ⟨rfl, cs_mk (cs_K_doneI (cs_K_done hK (a / 4) (by omega)) (by omega) s21) hB (cs_D_done (cs_D_done hD (a / 4) (Or.inl rfl)) p (Or.inl rfl))⟩,
          cs_xfR (Or.inr rfl) hp8 hi4 ek ech (fun post g => cs_xR3 hK hc hp8 s2 el0 ha ew g),
          cs_yfR (Or.inr rfl) hp8 hi4 ek (fun post g => cs_yR3 hK hc hp8 hi4 ech s2 el0 ha ew g)⟩
      | succ l =>
        obtain ⟨hB', hv⟩ := cs_B_rem hB hc8 hh hl eh el
        exact ⟨1, (nI P, nI C, nI (cs_lv (nI (a / 4)) L 0 0 li).1, upd (upd st p 3) (a / 4) 3, upd (upd o1 p 1) (a / 4) 1, upd (upd f1 p (nI i)) (a / 4) (nI (a % 4)), upd (upd r1 p (b1 (8 * c + h))) (a / 4) (vl a), upd (upd d1 p (re c + 1)) (a / 4) (se c + 1), rm, fs, cn, kd, ch, vl, cp, ow, cl, upd se c (se c + 1), upd re c (re c + 1), upd hd c (nI ((h + 1) % 8)), upd (upd ln c (nI l)) c (nI (l + 1)), upd b1 (8 * c + ((h + 1) % 8 + l) % 8) (vl a), (cs_lv (nI (a / 4)) L 0 0 li).2),
          (nI P, nI C, ub, nI Z, nI (cs_lv (nI (a / 4)) L 0 0 li).1, upd (upd st p 3) (a / 4) 3, upd (upd o2 p 1) (a / 4) 1, upd (upd f2 p (nI i)) (a / 4) (nI (a % 4)), fs, upd (upd r2 p (b1 (8 * c + h))) (a / 4) (vl a), upd (upd d2 p (re c + 1)) (a / 4) (se c + 1), rm, cn, kd, ch, vl, ow, upd (upd ln c (nI l)) c (nI (l + 1)), upd (cs_sh c l 0 b2) (8 * c + l) (vl a), upd se c (se c + 1), upd re c (re c + 1), cl, (cs_lv (nI (a / 4)) L 0 0 li).2),
          Or.inr ⟨rfl, cs_mk (cs_K_done (cs_K_doneI hK (by omega) s2) (a / 4) (by omega)) (cs_B_app hB' hc8 (by omega) (by omega) pk_us pk_us _) (cs_D_done (cs_D_done hD p (Or.inl rfl)) (a / 4) (Or.inl rfl))⟩,
          cs_xfR (Or.inr rfl) hp8 hi4 ek ech (fun post g => cs_xR5 hK hc hp8 s2 hh (by omega) eh el ha ew g),
          cs_yfR (Or.inr rfl) hp8 hi4 ek (fun post g => cs_yR5 hK hc hp8 hi4 ech s2 (by omega) el ha hne ew (by rw [← hv]; exact g))⟩
end
end
section
def cs_x55 (post : Int32 → SX → Prop) (x : Int32) (u : SX) : Prop := match u with
  | (pc, cc, ll, st, o1, f1, r1, d1, rm, fs, cn, kd, ch, vl, cp, ow, cl, se, re, hd, ln, b1, li) => wX_step_55 post x pc cc ll st o1 f1 r1 d1 rm fs cn kd ch vl cp ow cl se re hd ln b1 li
def cs_y188 (post : Int32 → SY → Prop) (x : Int32) (v : SY) : Prop := match v with
  | (pc, cc, ub, sz, ll, st, o2, f2, fs, r2, d2, rm, cn, kd, ch, vl, ow, ln, b2, se, re, cl, li) => wY_step_188 post x pc cc ub sz ll st o2 f2 fs r2 d2 rm cn kd ch vl ow ln b2 se re cl li
def cs_y131 (post : Int32 → SY → Prop) (x r : Int32) (v : SY) : Prop := match v with
  | (pc, cc, ub, sz, ll, st, o2, f2, fs, r2, d2, rm, cn, kd, ch, vl, ow, ln, b2, se, re, cl, li) => wY_step_131 post x r pc cc ub sz ll st o2 f2 fs r2 d2 rm cn kd ch vl ow ln b2 se re cl li
def cs_y102 (post : Int32 → SY → Prop) (x : Int32) (n : Nat) (r k : Int32) (v : SY) : Prop := match v with
  | (pc, cc, ub, sz, ll, st, o2, f2, fs, r2, d2, rm, cn, kd, ch, vl, ow, ln, b2, se, re, cl, li) => wY_step_102 post x n r k pc cc ub sz ll st o2 f2 fs r2 d2 rm cn kd ch vl ow ln b2 se re cl li
def cs_y70 (post : Int32 → SY → Prop) (x : Int32) (n : Nat) (r k : Int32) (v : SY) : Prop := match v with
  | (pc, cc, ub, sz, ll, st, o2, f2, fs, r2, d2, rm, cn, kd, ch, vl, ow, ln, b2, se, re, cl, li) => wY_step_70 post x n r k pc cc ub sz ll st o2 f2 fs r2 d2 rm cn kd ch vl ow ln b2 se re cl li
/-- behind a fired case nothing is tried -/
theorem cs_y102d {post : Int32 → SY → Prop} {p m : Nat} {k : Int32} {v : SY} (hp : p < 8) (h : cs_y131 post (nI p) 1 v) : cs_y102 post (nI p) (m + 1) 1 k v := by
  obtain ⟨pc, cc, ub, sz, ll, st, o2, f2, fs, r2, d2, rm, cn, kd, ch, vl, ow, ln, b2, se, re, cl, li⟩ := v
  exact And.intro (cs_in8 hp) (br_c (fun _ => h) (fun _ => br_f (by decide) h))
theorem cs_y70d {post : Int32 → SY → Prop} {p m : Nat} {k : Int32} {v : SY} (hp : p < 8) (h : cs_y131 post (nI p) 1 v) : cs_y70 post (nI p) (m + 1) 1 k v := by
  have q : cs_y102 post (nI p) (0 + 1) 1 0 v := cs_y102d hp h
  obtain ⟨pc, cc, ub, sz, ll, st, o2, f2, fs, r2, d2, rm, cn, kd, ch, vl, ow, ln, b2, se, re, cl, li⟩ := v
  exact And.intro (cs_in8 hp) (br_c (fun _ => Exists.intro _ q) (fun _ => br_f (by decide) (Exists.intro _ q)))
section
variable {P C L Z : Nat} {ub : Int32} {st o1 f1 r1 d1 rm fs cn kd ch vl cp ow cl se re hd ln b1 li o2 f2 r2 d2 b2 : Nat → Int32}
variable {p n f : Nat}
/-- the cases ahead of the first one -/
theorem cs_lp2 (hK : cs_K P C L st cn kd ch fs li) (hB : cs_B Z ub cp hd ln b1 b2) (hD : cs_D st o1 f1 r1 d1 o2 f2 r2 d2) (hp : p < P) (hs : st p = 1) (hn : n ≤ 4) (hf : f < n) (ef : fs p = nI f) :
    ∀ (d i : Nat), i + d = f → ∃ (r : Int32) (u' : SX) (v' : SY), (r = 0 ∧ u' = (nI P, nI C, nI L, st, o1, f1, r1, d1, rm, fs, cn, kd, ch, vl, cp, ow, cl, se, re, hd, ln, b1, li) ∧ v' = (nI P, nI C, ub, nI Z, nI L, st, o2, f2, fs, r2, d2, rm, cn, kd, ch, vl, ow, ln, b2, se, re, cl, li) ∨ r = 1 ∧ cs_Rel u' v') ∧
      (∀ post : Int32 → SX → Prop, post r u' → wX_fireFirstReady_17 post (nI p) (nI n) (d + 1) (nI i) (nI (n - f + i)) (nI P) (nI C) (nI L) st o1 f1 r1 d1 rm fs cn kd ch vl cp ow cl se re hd ln b1 li) ∧
      (∀ post : Int32 → SY → Prop, cs_y131 post (nI p) r v' → wY_step_102 post (nI p) (d + 1) 0 (nI i) (nI P) (nI C) ub (nI Z) (nI L) st o2 f2 fs r2 d2 rm cn kd ch vl ow ln b2 se re cl li) := by
  have hP := cs_K_P hK
  intro d
  induction d with
  | zero =>
    intro i hi
    refine ⟨0, (nI P, nI C, nI L, st, o1, f1, r1, d1, rm, fs, cn, kd, ch, vl, cp, ow, cl, se, re, hd, ln, b1, li), (nI P, nI C, ub, nI Z, nI L, st, o2, f2, fs, r2, d2, rm, cn, kd, ch, vl, ow, ln, b2, se, re, cl, li), Or.inl ⟨rfl, rfl, rfl⟩, fun post h => br_t (nI_le (by omega) (by omega)) h, fun post h => ?_⟩
    refine ⟨cs_in8 (by omega), ?_⟩
    rw [cs_cl (show p < 64 by omega), ef]
    exact br_t (nI_le (by omega) (by omega)) h
  | succ d ih =>
    intro i hi
    obtain ⟨r, u, v, ho, hX, hY⟩ := cs_fire (i := i) (n := n) (rm := rm) (vl := vl) (ow := ow) (cl := cl) (se := se) (re := re) hK hB hD hp hs hn (by omega)
    rcases ho with ⟨hr, hu, hv⟩ | ⟨hr, hR⟩
    · subst hr hu hv
      obtain ⟨r, u, v, ho, gX, gY⟩ := ih (i + 1) (by omega)
      refine ⟨r, u, v, ho, fun post h => ?_, fun post h => ?_⟩
      · refine br_f (nI_ge (by omega) (by omega)) (hX _ (br_t rfl (nm_r (nI_1 i) (br_t (nI_lt (by omega) (by omega)) (nm_r (nI_1 _) ?_)))))
        exact gX post h
      · refine ⟨cs_in8 (by omega), ?_⟩
        rw [cs_cl (show p < 64 by omega), ef]
        exact br_f (nI_ge (by omega) (by omega)) (br_t rfl (hY _ (nm_r (nI_1 i) (gY post h))))
    · subst hr
      refine ⟨1, u, v, Or.inr ⟨rfl, hR⟩, fun post h => ?_, fun post h => ?_⟩
      · exact br_f (nI_ge (by omega) (by omega)) (hX _ (br_f (by decide) h))
      · refine ⟨cs_in8 (by omega), ?_⟩
        rw [cs_cl (show p < 64 by omega), ef]
        have q : cs_y102 post (nI p) (d + 1) 1 (nI (i + 1)) v := cs_y102d (by omega) h
        exact br_f (nI_ge (by omega) (by omega)) (br_t rfl (hY _ (nm_r (nI_1 i) q)))
/-- the cases from the first one on, then those ahead of it -/
theorem cs_lp1 (hK : cs_K P C L st cn kd ch fs li) (hB : cs_B Z ub cp hd ln b1 b2) (hD : cs_D st o1 f1 r1 d1 o2 f2 r2 d2) (hp : p < P) (hs : st p = 1) (hn : n ≤ 4) (hf : f < n) (ef : fs p = nI f) (en : cn p = nI n) :
    ∀ (d i : Nat), i + (d + 1) = n → f ≤ i → ∃ (r : Int32) (u' : SX) (v' : SY), (r = 0 ∧ u' = (nI P, nI C, nI L, st, o1, f1, r1, d1, rm, fs, cn, kd, ch, vl, cp, ow, cl, se, re, hd, ln, b1, li) ∧ v' = (nI P, nI C, ub, nI Z, nI L, st, o2, f2, fs, r2, d2, rm, cn, kd, ch, vl, ow, ln, b2, se, re, cl, li) ∨ r = 1 ∧ cs_Rel u' v') ∧
      (∀ post : Int32 → SX → Prop, post r u' → wX_fireFirstReady_17 post (nI p) (nI n) (d + 1 + (f + 1)) (nI i) (nI (i - f)) (nI P) (nI C) (nI L) st o1 f1 r1 d1 rm fs cn kd ch vl cp ow cl se re hd ln b1 li) ∧
      (∀ post : Int32 → SY → Prop, cs_y131 post (nI p) r v' → wY_step_70 post (nI p) (d + 1 + 1) 0 (nI i) (nI P) (nI C) ub (nI Z) (nI L) st o2 f2 fs r2 d2 rm cn kd ch vl ow ln b2 se re cl li) := by
  have hP := cs_K_P hK
  intro d
  induction d with
  | zero =>
    intro i hi hfi
    obtain ⟨r, u, v, ho, hX, hY⟩ := cs_fire (i := i) (n := n) (rm := rm) (vl := vl) (ow := ow) (cl := cl) (se := se) (re := re) hK hB hD hp hs hn (by omega)
    rw [show 0 + 1 + (f + 1) = f + 1 + 1 from by omega]
    rcases ho with ⟨hr, hu, hv⟩ | ⟨hr, hR⟩
    · subst hr hu hv
      obtain ⟨r, u, v, ho, gX, gY⟩ := cs_lp2 (rm := rm) (vl := vl) (ow := ow) (cl := cl) (se := se) (re := re) hK hB hD hp hs hn hf ef f 0 (by omega)
      refine ⟨r, u, v, ho, fun post h => ?_, fun post h => ?_⟩
      · refine br_f (nI_ge (by omega) (by omega)) (hX _ (br_t rfl (nm_r (nI_1 i) (br_f (nI_nlt (by omega) (by omega)) (nm_r (nI_1 _) ?_)))))
        rw [show i - f + 1 = n - f + 0 from by omega]
        exact gX post h
      · refine ⟨cs_in8 (by omega), ?_⟩
        rw [cs_cl (show p < 64 by omega), en]
        refine br_f (nI_ge (by omega) (by omega)) (br_t rfl (hY _ (nm_r (nI_1 i) ?_)))
        refine ⟨cs_in8 (by omega), ?_⟩
        rw [cs_cl (show p < 64 by omega), en]
        exact br_t (nI_le (by omega) (by omega)) ⟨f + 1, gY post h⟩
    · subst hr
      refine ⟨1, u, v, Or.inr ⟨rfl, hR⟩, fun post h => ?_, fun post h => ?_⟩
      · exact br_f (nI_ge (by omega) (by omega)) (hX _ (br_f (by decide) h))
      · refine ⟨cs_in8 (by omega), ?_⟩
        rw [cs_cl (show p < 64 by omega), en]
        have q : cs_y70 post (nI p) (0 + 1) 1 (nI (i + 1)) v := cs_y70d (by omega) h
        exact br_f (nI_ge (by omega) (by omega)) (br_t rfl (hY _ (nm_r (nI_1 i) q)))
  | succ d ih =>
    intro i hi hfi
    obtain ⟨r, u, v, ho, hX, hY⟩ := cs_fire (i := i) (n := n) (rm := rm) (vl := vl) (ow := ow) (cl := cl) (se := se) (re := re) hK hB hD hp hs hn (by omega)
    rw [show d + 1 + 1 + (f + 1) = d + 1 + (f + 1) + 1 from by omega]
    rcases ho with ⟨hr, hu, hv⟩ | ⟨hr, hR⟩
    · subst hr hu hv
      obtain ⟨r, u, v, ho, gX, gY⟩ := ih (i + 1) (by omega) (by omega)
      refine ⟨r, u, v, ho, fun post h => ?_, fun post h => ?_⟩
      · refine br_f (nI_ge (by omega) (by omega)) (hX _ (br_t rfl (nm_r (nI_1 i) (br_t (nI_lt (by omega) (by omega)) (nm_r (nI_1 _) ?_)))))
        rw [show i - f + 1 = i + 1 - f from by omega]
        exact gX post h
      · refine ⟨cs_in8 (by omega), ?_⟩
        rw [cs_cl (show p < 64 by omega), en]
        exact br_f (nI_ge (by omega) (by omega)) (br_t rfl (hY _ (nm_r (nI_1 i) (gY post h))))
    · subst hr
      refine ⟨1, u, v, Or.inr ⟨rfl, hR⟩, fun post h => ?_, fun post h => ?_⟩
      · exact br_f (nI_ge (by omega) (by omega)) (hX _ (br_f (by decide) h))
      · refine ⟨cs_in8 (by omega), ?_⟩
        rw [cs_cl (show p < 64 by omega), en]
        have q : cs_y70 post (nI p) (d + 1 + 1) 1 (nI (i + 1)) v := cs_y70d (by omega) h
        exact br_f (nI_ge (by omega) (by omega)) (br_t rfl (hY _ (nm_r (nI_1 i) q)))
end
/-- the end of a step: the channels are given back -/
theorem cs_L_end {u : SX} {v : SY} {p : Nat} (hp : p < 8) (I : cs_Rel u v) : ∃ (r : Int32) (u' : SX) (v' : SY), cs_Rel u' v' ∧
    (∀ post : Int32 → SX → Prop, post r u' → cs_x55 post (nI p) u) ∧ (∀ post : Int32 → SY → Prop, post r v' → cs_y188 post (nI p) v) := by
  refine cs_el (Q := fun u v => ∃ (r : Int32) (u' : SX) (v' : SY), cs_Rel u' v' ∧
    (∀ post : Int32 → SX → Prop, post r u' → cs_x55 post (nI p) u) ∧ (∀ post : Int32 → SY → Prop, post r v' → cs_y188 post (nI p) v)) ?_ I
  intro P C L Z ub st o1 f1 r1 d1 rm fs cn kd ch vl cp ow cl se re hd ln b1 li o2 f2 r2 d2 b2 hK hB hD
  refine ⟨st p, (nI P, nI C, nI L, st, o1, f1, r1, d1, rm, fs, cn, kd, ch, vl, cp, cs_rl (nI p) C 0 ow, cl, se, re, hd, ln, b1, li), (nI P, nI C, ub, nI Z, nI L, st, o2, f2, fs, r2, d2, rm, cn, kd, ch, vl, cs_rl (nI p) C 0 ow, ln, b2, se, re, cl, li), cs_mk hK hB hD, fun post h => ?_, fun post h => ?_⟩
  · unfold cs_x55
    dsimp only
    unfold wX_step_55
    rw [cs_cl (show p < 64 by omega)]
    exact cs_xrel (cs_K_C hK) ⟨cs_in8 hp, h⟩
  · unfold cs_y188
    dsimp only
    unfold wY_step_188
    rw [cs_cl (show p < 64 by omega)]
    exact cs_yrel (cs_K_C hK) ⟨cs_in8 hp, h⟩
section
variable {P C L Z : Nat} {ub : Int32} {st o1 f1 r1 d1 rm fs cn kd ch vl cp ow cl se re hd ln b1 li o2 f2 r2 d2 b2 : Nat → Int32}
variable {p n f : Nat}
/-- no case fired: expired or parked -/
theorem cs_L_park (hK : cs_K P C L st cn kd ch fs li) (hB : cs_B Z ub cp hd ln b1 b2) (hD : cs_D st o1 f1 r1 d1 o2 f2 r2 d2) (hp : p < P) (hs : st p = 1) :
    ∃ (u' : SX) (v' : SY), cs_Rel u' v' ∧ (∀ post : SX → Prop, post u' → wpX_expireOrPark post (nI P, nI C, nI L, st, o1, f1, r1, d1, rm, fs, cn, kd, ch, vl, cp, ow, cl, se, re, hd, ln, b1, li) (nI p)) ∧
      (∀ post : Int32 → SY → Prop, cs_y188 post (nI p) v' → wY_step_131 post (nI p) 0 (nI P) (nI C) ub (nI Z) (nI L) st o2 f2 fs r2 d2 rm cn kd ch vl ow ln b2 se re cl li) := by
  have hP := cs_K_P hK
  have hp8 : p < 8 := by omega
  have s2 : ¬ st p = 2 := by rw [hs]; decide
  have s3 : ¬ st p = 3 := by rw [hs]; decide
  have hr := cs_K_room hK hp s2
  by_cases z : rm p = 0
  · refine ⟨(nI P, nI C, nI L, upd st p 3, upd o1 p 3, upd f1 p (-4), upd r1 p 0, upd d1 p 0, rm, fs, cn, kd, ch, vl, cp, ow, cl, se, re, hd, ln, b1, li), (nI P, nI C, ub, nI Z, nI L, upd st p 3, upd o2 p 3, upd f2 p (-4), fs, upd r2 p 0, upd d2 p 0, rm, cn, kd, ch, vl, ow, ln, b2, se, re, cl, li),
      cs_mk (cs_K_doneI hK (by omega) s2) hB (cs_D_done hD p (Or.inr (Or.inr ⟨rfl, rfl, rfl, rfl⟩))), fun post h => ?_, fun post h => ?_⟩
    · unfold wpX_expireOrPark
      dsimp only
      rw [cs_cl (show p < 64 by omega)]
      exact ⟨cs_in8 hp8, br_t z (cs_xcompI (cs_K_L hK) hp8 (cs_K_id hK (by omega) s2) h)⟩
    · unfold wY_step_131
      rw [cs_cl (show p < 64 by omega)]
      exact br_t rfl ⟨cs_in8 hp8, br_t z (cs_ycompI (cs_K_L hK) hp8 (cs_K_id hK (by omega) s2) h)⟩
  · refine ⟨(nI P, nI C, nI (L + 1), upd st p 2, o1, f1, r1, d1, rm, fs, cn, kd, ch, vl, cp, ow, cl, se, re, hd, ln, b1, upd li L (nI p)), (nI P, nI C, ub, nI Z, nI (L + 1), upd st p 2, o2, f2, fs, r2, d2, rm, cn, kd, ch, vl, ow, ln, b2, se, re, cl, upd li L (nI p)),
      cs_mk (cs_K_park hK hp s2) hB (cs_D_st hD p s3 (by decide)), fun post h => ?_, fun post h => ?_⟩
    · unfold wpX_expireOrPark
      dsimp only
      rw [cs_cl (show p < 64 by omega), cs_cl (show L < 64 by omega)]
      exact ⟨cs_in8 hp8, br_f z ⟨cs_in8 hp8, nm_e ⟨cs_in8 hr, nm_e (nm_r (nI_1 L) h)⟩⟩⟩
    · unfold wY_step_131
      rw [cs_cl (show p < 64 by omega)]
      refine br_t rfl ⟨cs_in8 hp8, br_f z ?_⟩
      unfold wY_step_157
      rw [cs_cl (show p < 64 by omega), cs_cl (show L < 64 by omega)]
      exact br_t rfl ⟨cs_in8 hp8, nm_e ⟨cs_in8 hr, nm_e (nm_r (nI_1 L) h)⟩⟩
end
theorem cs_y131d {post : Int32 → SY → Prop} {x : Int32} {v : SY} (h : cs_y188 post x v) : cs_y131 post x 1 v := by
  obtain ⟨pc, cc, ub, sz, ll, st, o2, f2, fs, r2, d2, rm, cn, kd, ch, vl, ow, ln, b2, se, re, cl, li⟩ := v
  exact br_f (by decide) (br_f (by decide) h)
end
section
/-! the smallest wanting channel: one answer -/
theorem cs_ms_ex {ch ow : Nat → Int32} {p C : Nat} (hC : C ≤ 8) (hch : ∀ j, ∃ m, m < C ∧ ch j = nI m) : ∀ n, ∃ m, cs_ms ch ow p C n m := by
  intro n
  induction n with
  | zero => exact ⟨-4, cs_ms_0⟩
  | succ n ih =>
    obtain ⟨m, hm⟩ := ih
    obtain ⟨b, hb, eb⟩ := hch (4 * p + n)
    by_cases z : ow b = nI p
    · exact ⟨m, cs_ms_own (by omega) eb z hm⟩
    · by_cases y : m = -4
      · subst y
        exact ⟨nI b, cs_ms_first (by omega) hb hC eb z hm⟩
      · by_cases x : m ≤ nI b
        · exact ⟨m, cs_ms_keep (by omega) hC eb y x hm⟩
        · exact ⟨nI b, cs_ms_less (by omega) hb hC eb z y x hm⟩
theorem cs_ms_un {ch ow : Nat → Int32} {p C n : Nat} {m m' : Int32} (hC : C ≤ 8) (h : cs_ms ch ow p C n m) (h' : cs_ms ch ow p C n m') : m = m' := by
  rcases h with ⟨h1, h2⟩ | ⟨b, h1, h2, h3, ⟨j, h4, h5⟩, h6⟩
  · rcases h' with ⟨g1, g2⟩ | ⟨b', g1, g2, g3, ⟨j', g4, g5⟩, g6⟩
    · rw [h1, g1]
    · exact absurd (h2 j' g4 b' (by omega) g5) g3
  · rcases h' with ⟨g1, g2⟩ | ⟨b', g1, g2, g3, ⟨j', g4, g5⟩, g6⟩
    · exact absurd (g2 j h4 b (by omega) h5) h3
    · have q1 := h6 j' g4 b' (by omega) g5 g3
      have q2 := g6 j h4 b (by omega) h5 h3
      have : b = b' := by omega
      rw [h2, g2, this]
/-! clamping -/
def cs_cv (x lo hi : Int32) : Int32 := if lo ≤ x then (if x ≤ hi then x else hi) else lo
theorem cs_xclamp {post : Int32 → Prop} {u : SX} {x lo hi : Int32} (h : post (cs_cv x lo hi)) : wpX_clamp post u x lo hi := by
  unfold cs_cv at h
  refine And.intro (fun z => And.intro (fun y => ?_) (fun y => ?_)) (fun z => ?_)
  · rw [if_pos z, if_pos y] at h; exact h
  · rw [if_pos z, if_neg y] at h; exact h
  · rw [if_neg z] at h; exact h
theorem cs_yclamp {post : Int32 → Prop} {u : SY} {x lo hi : Int32} (h : post (cs_cv x lo hi)) : wpY_clamp post u x lo hi := by
  unfold cs_cv at h
  refine And.intro (fun z => And.intro (fun y => ?_) (fun y => ?_)) (fun z => ?_)
  · rw [if_pos z, if_pos y] at h; exact h
  · rw [if_pos z, if_neg y] at h; exact h
  · rw [if_neg z] at h; exact h
theorem cs_cv_in (x : Int32) {lo hi : Nat} (h : lo ≤ hi) (hh : hi < 64) : ∃ j, lo ≤ j ∧ j ≤ hi ∧ cs_cv x (nI lo) (nI hi) = nI j := by
  unfold cs_cv
  by_cases z : nI lo ≤ x
  · rw [if_pos z]
    by_cases y : x ≤ nI hi
    · rw [if_pos y]
      have h0 : ¬ x < 0 := by
        intro w
        rw [Int32.lt_iff_toInt_lt] at w
        rw [Int32.le_iff_toInt_le, nI_toInt (by omega)] at z
        have : (0 : Int32).toInt = 0 := by decide
        omega
      obtain ⟨j, hj, rfl⟩ := nI_of h0
      rw [nI_leI (by omega) (by omega)] at z y
      exact ⟨j, z, y, rfl⟩
    · rw [if_neg y]
      exact ⟨hi, h, Nat.le_refl _, rfl⟩
  · rw [if_neg z]
    exact ⟨lo, Nat.le_refl _, h, rfl⟩
section
variable {P C L Z : Nat} {ub : Int32} {st o1 f1 r1 d1 rm fs cn kd ch vl cp ow cl se re hd ln b1 li o2 f2 r2 d2 b2 : Nat → Int32}
theorem cs_xmissE {post : Int32 → Prop} {p n : Nat} {m : Int32} (hp : p < 8) (hC : C ≤ 8) (hn : n ≤ 4) (en : cn p = nI n) (hch : ∀ j, ∃ m, m < C ∧ ch j = nI m) (hm : cs_ms ch ow p C n m) (h : post m) : wpX_nextMissing post (nI P, nI C, nI L, st, o1, f1, r1, d1, rm, fs, cn, kd, ch, vl, cp, ow, cl, se, re, hd, ln, b1, li) (nI p) :=
  cs_xmiss hp hC hn en hch (fun m' h' => by rw [cs_ms_un hC h' hm]; exact h)
theorem cs_K_cnU (H : cs_K P C L st cn kd ch fs li) {p m : Nat} (hm : m ≤ 4) (h : ¬ st p = 1) : cs_K P C L st (upd cn p (nI m)) kd ch fs li := by
  refine ⟨H.1, H.2.1, H.2.2.1, H.2.2.2.1, cs_K_L H, fun q => ?_, cs_K_kd H, cs_K_ch H, fun q hq => ?_, cs_K_li H, cs_K_ds H⟩
  · by_cases z : q = p
    · subst z; exact ⟨m, hm, pk_us⟩
    · rw [pk_un z]; exact cs_K_cn H q
  · by_cases z : q = p
    · subst z; exact absurd hq h
    · rw [pk_un z]; exact cs_K_fs H q hq
theorem cs_K_kdU (H : cs_K P C L st cn kd ch fs li) {j : Nat} {x : Int32} (h : x = 0 ∨ x = 1) : cs_K P C L st cn (upd kd j x) ch fs li := by
  refine ⟨H.1, H.2.1, H.2.2.1, H.2.2.2.1, cs_K_L H, cs_K_cn H, fun q => ?_, cs_K_ch H, cs_K_fs H, cs_K_li H, cs_K_ds H⟩
  by_cases z : q = j
  · subst z; rw [pk_us]; exact h
  · rw [pk_un z]; exact cs_K_kd H q
theorem cs_K_chU (H : cs_K P C L st cn kd ch fs li) {j c : Nat} (h : c < C) : cs_K P C L st cn kd (upd ch j (nI c)) fs li := by
  refine ⟨H.1, H.2.1, H.2.2.1, H.2.2.2.1, cs_K_L H, cs_K_cn H, cs_K_kd H, fun q => ?_, cs_K_fs H, cs_K_li H, cs_K_ds H⟩
  by_cases z : q = j
  · subst z; rw [pk_us]; exact ⟨c, h, rfl⟩
  · rw [pk_un z]; exact cs_K_ch H q
theorem cs_K_go (H : cs_K P C L st cn kd ch fs li) {p f n : Nat} (hf : f < n) (hn : n ≤ 4) (en : cn p = nI n) (hs : ¬ st p = 2) : cs_K P C L (upd st p 1) cn kd ch (upd fs p (nI f)) li := by
  refine ⟨H.1, H.2.1, H.2.2.1, H.2.2.2.1, cs_K_L H, cs_K_cn H, cs_K_kd H, cs_K_ch H, fun q hq => ?_, fun k hk => ?_, cs_K_ds H⟩
  · by_cases z : q = p
    · subst z; exact ⟨f, n, hf, hn, pk_us, en⟩
    · rw [pk_un z] at hq; rw [pk_un z]; exact cs_K_fs H q hq
  · obtain ⟨q, h1, h2, h3⟩ := cs_K_li H k hk
    refine ⟨q, h1, h2, ?_⟩
    rw [pk_un (fun e => hs (by rw [← e]; exact h3))]
    exact h3
end
/-! add -/
theorem cs_L_add {u : SX} {v : SY} (x1 x2 x3 x4 : Int32) (I : cs_Rel u v) : ∃ (r : Int32) (u' : SX) (v' : SY), cs_Rel u' v' ∧
    (∀ post : Int32 → SX → Prop, post r u' → wpX_add post u x1 x2 x3 x4) ∧ (∀ post : Int32 → SY → Prop, post r v' → wpY_add post v x1 x2 x3 x4) := by
  refine cs_el (Q := fun u v => ∃ (r : Int32) (u' : SX) (v' : SY), cs_Rel u' v' ∧
    (∀ post : Int32 → SX → Prop, post r u' → wpX_add post u x1 x2 x3 x4) ∧ (∀ post : Int32 → SY → Prop, post r v' → wpY_add post v x1 x2 x3 x4)) ?_ I
  intro P C L Z ub st o1 f1 r1 d1 rm fs cn kd ch vl cp ow cl se re hd ln b1 li o2 f2 r2 d2 b2 hK hB hD
  have hP := cs_K_P hK
  have hC := cs_K_C hK
  have R := cs_mk (rm := rm) (vl := vl) (ow := ow) (cl := cl) (se := se) (re := re) hK hB hD
  rcases or_assoc.mpr (pk_ix x1 (n := P) (by omega)) with hx | ⟨p, hp, rfl⟩
  · refine ⟨-1, _, _, R, fun post h => ?_, fun post h => ?_⟩
    · unfold wpX_add
      exact cs_xP0 hx (br_t rfl h)
    · unfold wpY_add
      exact cs_yP1 hx (br_f (by decide) h)
  have hp8 : p < 8 := by omega
  by_cases s : st p = 0
  rotate_left
  · refine ⟨-2, _, _, R, fun post h => ?_, fun post h => ?_⟩
    · unfold wpX_add
      dsimp only
      rw [cs_cl (show p < 64 by omega)]
      exact cs_xP1 hp hP (br_f (by decide) ⟨cs_in8 hp8, br_f s h⟩)
    · unfold wpY_add
      dsimp only
      rw [cs_cl (show p < 64 by omega)]
      exact cs_yP0 hp hP (br_t rfl ⟨cs_in8 hp8, br_f s h⟩)
  by_cases k01 : x2 = 0 ∨ x2 = 1
  rotate_left
  · refine ⟨-1, _, _, R, fun post h => ?_, fun post h => ?_⟩
    · unfold wpX_add
      dsimp only
      rw [cs_cl (show p < 64 by omega)]
      refine cs_xP1 hp hP (br_f (by decide) ⟨cs_in8 hp8, br_t s ?_⟩)
      unfold wpX_isKind
      exact br_f (fun e => k01 (Or.inl e)) (br_f (fun e => k01 (Or.inr e)) (br_t rfl h))
    · unfold wpY_add
      dsimp only
      rw [cs_cl (show p < 64 by omega)]
      exact cs_yP0 hp hP (br_t rfl ⟨cs_in8 hp8, br_t s (br_f (fun e => k01 (Or.inl e)) (br_f (fun e => k01 (Or.inr e)) h))⟩)
  have kX : ∀ post : Int32 → Prop, post 1 → wpX_isKind post (nI P, nI C, nI L, st, o1, f1, r1, d1, rm, fs, cn, kd, ch, vl, cp, ow, cl, se, re, hd, ln, b1, li) x2 := by
    intro post h
    unfold wpX_isKind
    rcases k01 with e | e
    · exact br_t e h
    · exact br_c (fun _ => h) (fun _ => br_t e h)
  have kY : ∀ post : Int32 → SY → Prop, wY_add_31 post (nI p) x2 x3 x4 (nI P) (nI C) ub (nI Z) (nI L) st o2 f2 fs r2 d2 rm cn kd ch vl ow ln b2 se re cl li → wpY_add post (nI P, nI C, ub, nI Z, nI L, st, o2, f2, fs, r2, d2, rm, cn, kd, ch, vl, ow, ln, b2, se, re, cl, li) (nI p) x2 x3 x4 := by
    intro post h
    unfold wpY_add
    dsimp only
    rw [cs_cl (show p < 64 by omega)]
    refine cs_yP0 hp hP (br_t rfl ⟨cs_in8 hp8, br_t s ?_⟩)
    rcases k01 with e | e
    · exact br_t e h
    · exact br_c (fun _ => h) (fun _ => br_t e h)
  rcases or_assoc.mpr (pk_ix x3 (n := C) (by omega)) with hx | ⟨c, hc, rfl⟩
  · refine ⟨-1, _, _, R, fun post h => ?_, fun post h => ?_⟩
    · unfold wpX_add
      dsimp only
      rw [cs_cl (show p < 64 by omega)]
      exact cs_xP1 hp hP (br_f (by decide) ⟨cs_in8 hp8, br_t s (kX _ (br_f (by decide) (cs_xC0 hx (br_t rfl h))))⟩)
    · refine kY _ ?_
      unfold wY_add_31
      exact cs_yC1 hx (br_f (by decide) h)
  obtain ⟨n, hn, en⟩ := cs_K_cn hK p
  by_cases n4 : n = 4
  · refine ⟨-3, _, _, R, fun post h => ?_, fun post h => ?_⟩
    · unfold wpX_add
      dsimp only
      rw [cs_cl (show p < 64 by omega), en]
      exact cs_xP1 hp hP (br_f (by decide) ⟨cs_in8 hp8, br_t s (kX _ (br_f (by decide) (cs_xC1 hc hC (br_f (by decide) ⟨cs_in8 hp8, nm_e (br_f (nI_nlt (b := 4) (by omega) (by omega)) h)⟩))))⟩)
    · refine kY _ ?_
      unfold wY_add_31
      rw [cs_cl (show p < 64 by omega), en]
      exact cs_yC0 hc hC (br_t rfl ⟨cs_in8 hp8, br_f (nI_nlt (b := 4) (by omega) (by omega)) h⟩)
  have hj : 4 * p + n < 32 := by omega
  have lt4 : nI n < 4 := nI_lt (b := 4) (by omega) (by omega)
  have s1 : ¬ st p = 1 := by rw [s]; decide
  have sb : nI (4 * p + n) - 4 * nI p = nI n := by
    rw [cs_e4, pk_mul, pk_sub (by omega)]
    exact congrArg nI (by omega)
  have D : ∀ w : Int32, cs_Rel (nI P, nI C, nI L, st, o1, f1, r1, d1, rm, fs, upd cn p (nI (n + 1)), upd kd (4 * p + n) x2, upd ch (4 * p + n) (nI c), upd vl (4 * p + n) w, cp, ow, cl, se, re, hd, ln, b1, li)
      (nI P, nI C, ub, nI Z, nI L, st, o2, f2, fs, r2, d2, rm, upd cn p (nI (n + 1)), upd kd (4 * p + n) x2, upd ch (4 * p + n) (nI c), upd vl (4 * p + n) w, ow, ln, b2, se, re, cl, li) := fun w =>
    cs_mk (cs_K_cnU (cs_K_chU (cs_K_kdU hK k01) hc) (by omega) s1) hB hD
  by_cases k0 : x2 = 0
  · refine ⟨nI n, _, _, D x4, fun post h => ?_, fun post h => ?_⟩
    · unfold wpX_add
      dsimp only
      rw [cs_cl (show p < 64 by omega), en]
      refine cs_xP1 hp hP (br_f (by decide) ⟨cs_in8 hp8, br_t s (kX _ (br_f (by decide) (cs_xC1 hc hC (br_f (by decide) ⟨cs_in8 hp8, nm_e (br_t lt4 (nm_r (cs_m4 p n) ?_))⟩))))⟩)
      rw [cs_cl (show 4 * p + n < 64 by omega)]
      refine ⟨cs_in32 hj, nm_e ⟨cs_in32 hj, nm_e (br_t k0 ?_)⟩⟩
      unfold wX_add_97
      rw [cs_cl (show 4 * p + n < 64 by omega), cs_cl (show p < 64 by omega), nI_1]
      exact ⟨cs_in32 hj, nm_e ⟨cs_in8 hp8, nm_e h⟩⟩
    · refine kY _ ?_
      unfold wY_add_31
      rw [cs_cl (show p < 64 by omega), en, cs_m4, nI_1]
      refine cs_yC0 hc hC (br_t rfl ⟨cs_in8 hp8, br_t lt4 ⟨cs_in8 hp8, nm_e ⟨cs_in8 hp8, cs_in8 hp8, nm_e ?_⟩⟩⟩)
      rw [cs_cl (show 4 * p + n < 64 by omega), sb]
      exact ⟨cs_in32 hj, nm_e ⟨cs_in32 hj, nm_e (br_t k0 ⟨cs_in32 hj, nm_e h⟩)⟩⟩
  · refine ⟨nI n, _, _, D 0, fun post h => ?_, fun post h => ?_⟩
    · unfold wpX_add
      dsimp only
      rw [cs_cl (show p < 64 by omega), en]
      refine cs_xP1 hp hP (br_f (by decide) ⟨cs_in8 hp8, br_t s (kX _ (br_f (by decide) (cs_xC1 hc hC (br_f (by decide) ⟨cs_in8 hp8, nm_e (br_t lt4 (nm_r (cs_m4 p n) ?_))⟩))))⟩)
      rw [cs_cl (show 4 * p + n < 64 by omega)]
      refine ⟨cs_in32 hj, nm_e ⟨cs_in32 hj, nm_e (br_f k0 ?_)⟩⟩
      unfold wX_add_97
      rw [cs_cl (show 4 * p + n < 64 by omega), cs_cl (show p < 64 by omega), nI_1]
      exact ⟨cs_in32 hj, nm_e ⟨cs_in8 hp8, nm_e h⟩⟩
    · refine kY _ ?_
      unfold wY_add_31
      rw [cs_cl (show p < 64 by omega), en, cs_m4, nI_1]
      refine cs_yC0 hc hC (br_t rfl ⟨cs_in8 hp8, br_t lt4 ⟨cs_in8 hp8, nm_e ⟨cs_in8 hp8, cs_in8 hp8, nm_e ?_⟩⟩⟩)
      rw [cs_cl (show 4 * p + n < 64 by omega), sb]
      exact ⟨cs_in32 hj, nm_e ⟨cs_in32 hj, nm_e (br_f k0 ⟨cs_in32 hj, nm_e h⟩)⟩⟩
/-! reset -/
theorem cs_L_reset {u : SX} {v : SY} (x1 : Int32) (I : cs_Rel u v) : ∃ (r : Int32) (u' : SX) (v' : SY), cs_Rel u' v' ∧
    (∀ post : Int32 → SX → Prop, post r u' → wpX_reset post u x1) ∧ (∀ post : Int32 → SY → Prop, post r v' → wpY_reset post v x1) := by
  refine cs_el (Q := fun u v => ∃ (r : Int32) (u' : SX) (v' : SY), cs_Rel u' v' ∧
    (∀ post : Int32 → SX → Prop, post r u' → wpX_reset post u x1) ∧ (∀ post : Int32 → SY → Prop, post r v' → wpY_reset post v x1)) ?_ I
  intro P C L Z ub st o1 f1 r1 d1 rm fs cn kd ch vl cp ow cl se re hd ln b1 li o2 f2 r2 d2 b2 hK hB hD
  have hP := cs_K_P hK
  have hC := cs_K_C hK
  rcases or_assoc.mpr (pk_ix x1 (n := P) (by omega)) with hx | ⟨p, hp, rfl⟩
  · refine ⟨-1, (nI P, nI C, nI L, st, o1, f1, r1, d1, rm, fs, cn, kd, ch, vl, cp, ow, cl, se, re, hd, ln, b1, li), (nI P, nI C, ub, nI Z, nI L, st, o2, f2, fs, r2, d2, rm, cn, kd, ch, vl, ow, ln, b2, se, re, cl, li), cs_mk hK hB hD, fun post h => ?_, fun post h => ?_⟩
    · unfold wpX_reset
      exact cs_xP0 hx (br_t rfl h)
    · unfold wpY_reset
      exact cs_yP1 hx (br_f (by decide) h)
  have hp8 : p < 8 := by omega
  refine ⟨st p, (nI P, nI C, nI (cs_lv (nI p) L 0 0 li).1, upd st p 0, upd o1 p 0, upd f1 p (-4), upd r1 p 0, upd d1 p 0, rm, fs, upd cn p (nI 0), kd, ch, vl, cp, cs_rl (nI p) C 0 ow, cl, se, re, hd, ln, b1, (cs_lv (nI p) L 0 0 li).2),
    (nI P, nI C, ub, nI Z, nI (cs_lv (nI p) L 0 0 li).1, upd st p 0, o2, f2, fs, r2, d2, rm, upd cn p (nI 0), kd, ch, vl, cs_rl (nI p) C 0 ow, ln, b2, se, re, cl, (cs_lv (nI p) L 0 0 li).2),
    cs_mk (cs_K_cnU (cs_K_lv hK p (by omega) (st' := upd st p 0) (fun q hq => pk_un hq) (fun h => absurd h (by rw [pk_us]; decide))) (by omega) (by rw [pk_us]; decide)) hB (cs_D_clr hD p (by decide)),
    fun post h => ?_, fun post h => ?_⟩
  · unfold wpX_reset
    dsimp only
    rw [cs_cl (show p < 64 by omega)]
    exact cs_xP1 hp hP (br_f (by decide) ⟨cs_in8 hp8, nm_e (cs_xleave (cs_K_L hK) (cs_xrel hC (cs_xclr hp8 ⟨cs_in8 hp8, nm_e ⟨cs_in8 hp8, nm_e h⟩⟩)))⟩)
  · unfold wpY_reset
    dsimp only
    rw [cs_cl (show p < 64 by omega)]
    exact cs_yP0 hp hP (br_t rfl ⟨cs_in8 hp8, nm_e (cs_yleave (cs_K_L hK) (cs_yrel hC ⟨cs_in8 hp8, nm_e ⟨cs_in8 hp8, nm_e h⟩⟩))⟩)
end
section
/-! step -/
theorem cs_L_step {u : SX} {v : SY} (x1 : Int32) (I : cs_Rel u v) : ∃ (r : Int32) (u' : SX) (v' : SY), cs_Rel u' v' ∧
    (∀ post : Int32 → SX → Prop, post r u' → wpX_step post u x1) ∧ (∀ post : Int32 → SY → Prop, post r v' → wpY_step post v x1) := by
  refine cs_el (Q := fun u v => ∃ (r : Int32) (u' : SX) (v' : SY), cs_Rel u' v' ∧
    (∀ post : Int32 → SX → Prop, post r u' → wpX_step post u x1) ∧ (∀ post : Int32 → SY → Prop, post r v' → wpY_step post v x1)) ?_ I
  intro P C L Z ub st o1 f1 r1 d1 rm fs cn kd ch vl cp ow cl se re hd ln b1 li o2 f2 r2 d2 b2 hK hB hD
  have hP := cs_K_P hK
  have hC := cs_K_C hK
  have R := cs_mk (rm := rm) (vl := vl) (ow := ow) (cl := cl) (se := se) (re := re) hK hB hD
  rcases or_assoc.mpr (pk_ix x1 (n := P) (by omega)) with hx | ⟨p, hp, rfl⟩
  · refine ⟨-1, _, _, R, fun post h => ?_, fun post h => ?_⟩
    · unfold wpX_step
      exact cs_xP0 hx (br_t rfl h)
    · unfold wpY_step
      exact cs_yP1 hx (br_f (by decide) h)
  have hp8 : p < 8 := by omega
  by_cases s : st p = 1
  rotate_left
  · refine ⟨-2, _, _, R, fun post h => ?_, fun post h => ?_⟩
    · unfold wpX_step
      dsimp only
      rw [cs_cl (show p < 64 by omega)]
      exact cs_xP1 hp hP (br_f (by decide) ⟨cs_in8 hp8, br_f s h⟩)
    · unfold wpY_step
      dsimp only
      rw [cs_cl (show p < 64 by omega)]
      exact cs_yP0 hp hP (br_t rfl ⟨cs_in8 hp8, br_f s h⟩)
  obtain ⟨f, n, hf, hn, ef, en⟩ := cs_K_fs hK p s
  obtain ⟨m, hm⟩ := cs_ms_ex (ow := ow) (p := p) hC (cs_K_ch hK) n
  have mX : ∀ post : Int32 → SX → Prop, (((m = (-4) → (wpX_fireFirstReady (fun r_53 u => match u with | (pc, cc, ll, st, o1, f1, r1, d1, rm, fs, cn, kd, ch, vl, cp, ow, cl, se, re, hd, ln, b1, li) => (((r_53 = 0 → (wpX_expireOrPark (fun u => match u with | (pc, cc, ll, st, o1, f1, r1, d1, rm, fs, cn, kd, ch, vl, cp, ow, cl, se, re, hd, ln, b1, li) => (wX_step_55 post (nI p) pc cc ll st o1 f1 r1 d1 rm fs cn kd ch vl cp ow cl se re hd ln b1 li)) (pc, cc, ll, st, o1, f1, r1, d1, rm, fs, cn, kd, ch, vl, cp, ow, cl, se, re, hd, ln, b1, li) (nI p))) ∧ (¬ r_53 = 0 → (wX_step_55 post (nI p) pc cc ll st o1 f1 r1 d1 rm fs cn kd ch vl cp ow cl se re hd ln b1 li))))) (nI P, nI C, nI L, st, o1, f1, r1, d1, rm, fs, cn, kd, ch, vl, cp, ow, cl, se, re, hd, ln, b1, li) (nI p))) ∧ (¬ m = (-4) → (wpX_acquire (fun r_127 u => match u with | (pc, cc, ll, st, o1, f1, r1, d1, rm, fs, cn, kd, ch, vl, cp, ow, cl, se, re, hd, ln, b1, li) => (post r_127 (pc, cc, ll, st, o1, f1, r1, d1, rm, fs, cn, kd, ch, vl, cp, ow, cl, se, re, hd, ln, b1, li))) (nI P, nI C, nI L, st, o1, f1, r1, d1, rm, fs, cn, kd, ch, vl, cp, ow, cl, se, re, hd, ln, b1, li) (nI p) m)))) → wpX_step post (nI P, nI C, nI L, st, o1, f1, r1, d1, rm, fs, cn, kd, ch, vl, cp, ow, cl, se, re, hd, ln, b1, li) (nI p) := by
    intro post h
    unfold wpX_step
    dsimp only
    rw [cs_cl (show p < 64 by omega)]
    exact cs_xP1 hp hP (br_f (by decide) ⟨cs_in8 hp8, br_t s (cs_xmissE hp8 hC hn en (cs_K_ch hK) hm h)⟩)
  have mY : ∀ post : Int32 → SY → Prop, (((m < 0 → (wY_step_49 post (nI p) m 0 (nI P) (nI C) ub (nI Z) (nI L) st o2 f2 fs r2 d2 rm cn kd ch vl ow ln b2 se re cl li)) ∧ (¬ m < 0 → (vp_in m 8 ∧ ((((ow m.toNatClampNeg) = (-4) → (wY_step_49 post (nI p) m 0 (nI P) (nI C) ub (nI Z) (nI L) st o2 f2 fs r2 d2 rm cn kd ch vl ow ln b2 se re cl li)) ∧ (¬ (ow m.toNatClampNeg) = (-4) → (post (-5) (nI P, nI C, ub, nI Z, nI L, st, o2, f2, fs, r2, d2, rm, cn, kd, ch, vl, ow, ln, b2, se, re, cl, li))))))))) → wpY_step post (nI P, nI C, ub, nI Z, nI L, st, o2, f2, fs, r2, d2, rm, cn, kd, ch, vl, ow, ln, b2, se, re, cl, li) (nI p) := by
    intro post h
    unfold wpY_step
    dsimp only
    rw [cs_cl (show p < 64 by omega)]
    exact cs_yP0 hp hP (br_t rfl ⟨cs_in8 hp8, br_t s (cs_ymiss (cs_K_kd hK) hp8 hC hn en hm h)⟩)
  rcases cs_ms_or hm with e | ⟨b, hb, e⟩
  · subst e
    obtain ⟨r, u1, v1, ho, gX, gY⟩ := cs_lp1 (rm := rm) (vl := vl) (ow := ow) (cl := cl) (se := se) (re := re) hK hB hD hp s hn hf ef en (n - f - 1) f (by omega) (by omega)
    rw [Nat.sub_self] at gX
    have fX : ∀ post : Int32 → SX → Prop, post r u1 → wpX_fireFirstReady post (nI P, nI C, nI L, st, o1, f1, r1, d1, rm, fs, cn, kd, ch, vl, cp, ow, cl, se, re, hd, ln, b1, li) (nI p) := by
      intro post h
      unfold wpX_fireFirstReady
      dsimp only
      rw [cs_cl (show p < 64 by omega), en, ef]
      exact ⟨cs_in8 hp8, nm_e ⟨cs_in8 hp8, nm_e ⟨_, gX post h⟩⟩⟩
    have fY : ∀ post : Int32 → SY → Prop, cs_y131 post (nI p) r v1 → wY_step_49 post (nI p) (-4) 0 (nI P) (nI C) ub (nI Z) (nI L) st o2 f2 fs r2 d2 rm cn kd ch vl ow ln b2 se re cl li := by
      intro post h
      unfold wY_step_49
      rw [cs_cl (show p < 64 by omega), ef]
      exact br_t (by decide) ⟨cs_in8 hp8, nm_e ⟨_, gY post h⟩⟩
    rcases ho with ⟨hr, hu, hv⟩ | ⟨hr, hR⟩
    · subst hr hu hv
      obtain ⟨u2, v2, R2, pX, pY⟩ := cs_L_park (rm := rm) (vl := vl) (ow := ow) (cl := cl) (se := se) (re := re) hK hB hD hp s
      obtain ⟨r3, u3, v3, R3, eX, eY⟩ := cs_L_end hp8 R2
      refine ⟨r3, u3, v3, R3, fun post h => mX post (br_t rfl (fX _ (br_t rfl (pX _ (eX post h))))), fun post h => mY post (br_t (by decide) (fY post (pY post (eY post h))))⟩
    · subst hr
      obtain ⟨r3, u3, v3, R3, eX, eY⟩ := cs_L_end hp8 hR
      refine ⟨r3, u3, v3, R3, fun post h => mX post (br_t rfl (fX _ (br_f (by decide) (eX post h)))), fun post h => mY post (br_t (by decide) (fY post (cs_y131d (eY post h))))⟩
  · subst e
    have hb8 : b < 8 := by omega
    by_cases z : ow b = -4
    · refine ⟨1, (nI P, nI C, nI L, st, o1, f1, r1, d1, rm, fs, cn, kd, ch, vl, cp, upd ow b (nI p), cl, se, re, hd, ln, b1, li), (nI P, nI C, ub, nI Z, nI L, st, o2, f2, fs, r2, d2, rm, cn, kd, ch, vl, upd ow b (nI p), ln, b2, se, re, cl, li), cs_mk hK hB hD, fun post h => mX post (br_f (cs_nn4 (by omega)) ?_), fun post h => mY post (br_f (cs_pos (by omega)) ⟨cs_in8 hb8, ?_⟩)⟩
      · unfold wpX_acquire
        dsimp only
        rw [cs_cl (show b < 64 by omega)]
        exact ⟨cs_in8 hb8, br_t z ⟨cs_in8 hb8, nm_e h⟩⟩
      · rw [cs_cl (show b < 64 by omega)]
        refine br_t z ?_
        unfold wY_step_49
        rw [cs_cl (show b < 64 by omega)]
        exact br_f (cs_pos (by omega)) ⟨cs_in8 hb8, nm_e h⟩
    · refine ⟨-5, _, _, R, fun post h => mX post (br_f (cs_nn4 (by omega)) ?_), fun post h => mY post (br_f (cs_pos (by omega)) ⟨cs_in8 hb8, ?_⟩)⟩
      · unfold wpX_acquire
        dsimp only
        rw [cs_cl (show b < 64 by omega)]
        exact ⟨cs_in8 hb8, br_f z h⟩
      · rw [cs_cl (show b < 64 by omega)]
        exact br_f z h
/-! start -/
section
variable {P C L Z : Nat} {ub : Int32} {st o1 f1 r1 d1 rm fs cn kd ch vl cp ow cl se re hd ln b1 li o2 f2 r2 d2 b2 : Nat → Int32}
theorem cs_yst {post : Int32 → SY → Prop} {p n : Nat} (hkd : ∀ j, kd j = 0 ∨ kd j = 1) (hp : p < 8) (hC : C ≤ 8) (hn : n ≤ 4) (en : cn p = nI n)
    (H : post (nI (cs_ct (fun c => cs_nb ch (nI c) p n) C)) (nI P, nI C, ub, nI Z, nI L, st, o2, f2, fs, r2, d2, rm, cn, kd, ch, vl, ow, ln, b2, se, re, cl, li)) : ∀ (d k : Nat), k + d = C → wY_start_96 post (nI p) (nI P) (nI C) ub (nI Z) (nI L) st o2 f2 fs r2 d2 rm cn kd ch vl ow ln b2 se re cl li (d + 1) (nI (cs_ct (fun c => cs_nb ch (nI c) p n) k)) (nI k) := by
  intro d
  induction d with
  | zero =>
    intro k hk
    have e : k = C := by omega
    subst e
    exact br_t (nI_le (by omega) (by omega)) H
  | succ d ih =>
    intro k hk
    have q := ih (k + 1) (by omega)
    refine br_f (nI_ge (by omega) (by omega)) (cs_ynames hkd hp hn en (fun z => ?_) (fun z => ?_))
    · rw [cs_ct_t (f := fun c => cs_nb ch (nI c) p n) (n := k) z] at q
      exact br_f (by decide) (nm_r (nI_1 _) (nm_r (nI_1 k) q))
    · rw [cs_ct_f (f := fun c => cs_nb ch (nI c) p n) (n := k) (by show ¬ cs_nb ch (nI k) p n = true; rw [z]; decide)] at q
      exact br_t rfl (nm_r (nI_1 k) q)
theorem cs_ystE {post : Int32 → SY → Prop} {p n : Nat} (hkd : ∀ j, kd j = 0 ∨ kd j = 1) (hp : p < 8) (hC : C ≤ 8) (hn : n ≤ 4) (en : cn p = nI n)
    (H : post (nI (cs_ct (fun c => cs_nb ch (nI c) p n) C)) (nI P, nI C, ub, nI Z, nI L, st, o2, f2, fs, r2, d2, rm, cn, kd, ch, vl, ow, ln, b2, se, re, cl, li)) : ∃ n96, wY_start_96 post (nI p) (nI P) (nI C) ub (nI Z) (nI L) st o2 f2 fs r2 d2 rm cn kd ch vl ow ln b2 se re cl li n96 0 0 :=
  Exists.intro (C + 1) (cs_yst hkd hp hC hn en H C 0 (by omega))
end
theorem cs_rot (x : Int32) {n : Nat} (h0 : 0 < n) (hn : n ≤ 4) : ∃ f, f < n ∧ (x &&& 2147483647) - (x &&& 2147483647) / nI n * nI n = nI f := by
  obtain ⟨j, hj, e⟩ := pk_andE x (m := 2147483647) 31 (by decide)
  rw [e, pk_rem hj h0 (by omega)]
  exact ⟨j % n, Nat.mod_lt _ h0, rfl⟩
theorem cs_L_start {u : SX} {v : SY} (x1 x2 x3 : Int32) (I : cs_Rel u v) : ∃ (r : Int32) (u' : SX) (v' : SY), cs_Rel u' v' ∧
    (∀ post : Int32 → SX → Prop, post r u' → wpX_start post u x1 x2 x3) ∧ (∀ post : Int32 → SY → Prop, post r v' → wpY_start post v x1 x2 x3) := by
  refine cs_el (Q := fun u v => ∃ (r : Int32) (u' : SX) (v' : SY), cs_Rel u' v' ∧
    (∀ post : Int32 → SX → Prop, post r u' → wpX_start post u x1 x2 x3) ∧ (∀ post : Int32 → SY → Prop, post r v' → wpY_start post v x1 x2 x3)) ?_ I
  intro P C L Z ub st o1 f1 r1 d1 rm fs cn kd ch vl cp ow cl se re hd ln b1 li o2 f2 r2 d2 b2 hK hB hD
  have hP := cs_K_P hK
  have hC := cs_K_C hK
  have R := cs_mk (rm := rm) (vl := vl) (ow := ow) (cl := cl) (se := se) (re := re) hK hB hD
  rcases or_assoc.mpr (pk_ix x1 (n := P) (by omega)) with hx | ⟨p, hp, rfl⟩
  · refine ⟨-1, _, _, R, fun post h => ?_, fun post h => ?_⟩
    · unfold wpX_start
      exact cs_xP0 hx (br_t rfl h)
    · unfold wpY_start
      exact cs_yP1 hx (br_f (by decide) h)
  have hp8 : p < 8 := by omega
  by_cases s1 : st p = 1
  · refine ⟨-2, _, _, R, fun post h => ?_, fun post h => ?_⟩
    · unfold wpX_start
      dsimp only
      rw [cs_cl (show p < 64 by omega)]
      exact cs_xP1 hp hP (br_f (by decide) ⟨cs_in8 hp8, br_t s1 h⟩)
    · unfold wpY_start
      dsimp only
      rw [cs_cl (show p < 64 by omega)]
      exact cs_yP0 hp hP (br_t rfl ⟨cs_in8 hp8, nm_e ⟨cs_in8 hp8, br_t s1 h⟩⟩)
  by_cases s2 : st p = 2
  · refine ⟨-2, _, _, R, fun post h => ?_, fun post h => ?_⟩
    · unfold wpX_start
      dsimp only
      rw [cs_cl (show p < 64 by omega)]
      exact cs_xP1 hp hP (br_f (by decide) ⟨cs_in8 hp8, br_f s1 ⟨cs_in8 hp8, br_t s2 h⟩⟩)
    · unfold wpY_start
      dsimp only
      rw [cs_cl (show p < 64 by omega)]
      exact cs_yP0 hp hP (br_t rfl ⟨cs_in8 hp8, nm_e ⟨cs_in8 hp8, br_f s1 ⟨cs_in8 hp8, br_t s2 h⟩⟩⟩)
  obtain ⟨n, hn, en⟩ := cs_K_cn hK p
  by_cases n0 : n = 0
  · subst n0
    refine ⟨-2, _, _, R, fun post h => ?_, fun post h => ?_⟩
    · unfold wpX_start
      dsimp only
      rw [cs_cl (show p < 64 by omega), en]
      exact cs_xP1 hp hP (br_f (by decide) ⟨cs_in8 hp8, br_f s1 ⟨cs_in8 hp8, br_f s2 ⟨cs_in8 hp8, nm_e (br_f (by decide) h)⟩⟩⟩)
    · unfold wpY_start
      dsimp only
      rw [cs_cl (show p < 64 by omega), en]
      exact cs_yP0 hp hP (br_t rfl ⟨cs_in8 hp8, nm_e ⟨cs_in8 hp8, br_f s1 ⟨cs_in8 hp8, br_f s2 (br_f (by decide) h)⟩⟩⟩)
  have pos : 0 < nI n := nI_lt (a := 0) (by omega) (by omega)
  have nz : ¬ nI n = 0 := nI_ne0 (by omega) (by omega)
  obtain ⟨f, hf, ef⟩ := cs_rot x2 (n := n) (by omega) hn
  have D : ∀ w : Int32, cs_Rel (nI P, nI C, nI L, upd st p 1, upd o1 p 0, upd f1 p (-4), upd r1 p 0, upd d1 p 0, upd rm p w, upd fs p (nI f), cn, kd, ch, vl, cp, ow, cl, se, re, hd, ln, b1, li) (nI P, nI C, ub, nI Z, nI L, upd st p 1, o2, f2, upd fs p (nI f), r2, d2, upd rm p w, cn, kd, ch, vl, ow, ln, b2, se, re, cl, li) := fun w =>
    cs_mk (cs_K_go hK hf hn en s2) hB (cs_D_clr hD p (by decide))
  by_cases t : 0 ≤ x3
  · refine ⟨nI (cs_ct (fun c => cs_nb ch (nI c) p n) C), _, _, D (cs_cv x3 0 1000), fun post h => ?_, fun post h => ?_⟩
    · unfold wpX_start
      dsimp only
      rw [cs_cl (show p < 64 by omega), en]
      refine cs_xP1 hp hP (br_f (by decide) ⟨cs_in8 hp8, br_f s1 ⟨cs_in8 hp8, br_f s2 ⟨cs_in8 hp8, nm_e (br_t pos (cs_xclr hp8 ?_))⟩⟩⟩)
      dsimp only
      rw [ef]
      refine ⟨cs_in8 hp8, nm_e ⟨nz, cs_in8 hp8, nm_e (br_t t (cs_xclamp ?_))⟩⟩
      unfold wX_start_97
      rw [cs_cl (show p < 64 by omega)]
      exact ⟨cs_in8 hp8, nm_e (cs_xdist hp8 hC hn en (cs_K_ch hK) h)⟩
    · unfold wpY_start
      dsimp only
      rw [cs_cl (show p < 64 by omega), en]
      refine cs_yP0 hp hP (br_t rfl ⟨cs_in8 hp8, nm_e ⟨cs_in8 hp8, br_f s1 ⟨cs_in8 hp8, br_f s2 (br_t pos ⟨cs_in8 hp8, nm_e ⟨nz, cs_in8 hp8, ?_⟩⟩)⟩⟩⟩)
      rw [ef]
      exact nm_e (br_t t (cs_yclamp ⟨cs_in8 hp8, nm_e (cs_ystE (cs_K_kd hK) hp8 hC hn en h)⟩))
  · refine ⟨nI (cs_ct (fun c => cs_nb ch (nI c) p n) C), _, _, D (-6), fun post h => ?_, fun post h => ?_⟩
    · unfold wpX_start
      dsimp only
      rw [cs_cl (show p < 64 by omega), en]
      refine cs_xP1 hp hP (br_f (by decide) ⟨cs_in8 hp8, br_f s1 ⟨cs_in8 hp8, br_f s2 ⟨cs_in8 hp8, nm_e (br_t pos (cs_xclr hp8 ?_))⟩⟩⟩)
      dsimp only
      rw [ef]
      refine ⟨cs_in8 hp8, nm_e ⟨nz, cs_in8 hp8, nm_e (br_f t ?_)⟩⟩
      unfold wX_start_97
      rw [cs_cl (show p < 64 by omega)]
      exact ⟨cs_in8 hp8, nm_e (cs_xdist hp8 hC hn en (cs_K_ch hK) h)⟩
    · unfold wpY_start
      dsimp only
      rw [cs_cl (show p < 64 by omega), en]
      refine cs_yP0 hp hP (br_t rfl ⟨cs_in8 hp8, nm_e ⟨cs_in8 hp8, br_f s1 ⟨cs_in8 hp8, br_f s2 (br_t pos ⟨cs_in8 hp8, nm_e ⟨nz, cs_in8 hp8, ?_⟩⟩)⟩⟩⟩)
      rw [ef]
      exact nm_e (br_f t ⟨cs_in8 hp8, nm_e (cs_ystE (cs_K_kd hK) hp8 hC hn en h)⟩)
end
section
/-! close -/
section
variable {P C L Z : Nat} {ub : Int32} {st o1 f1 r1 d1 rm fs cn kd ch vl cp ow cl se re hd ln b1 li o2 f2 r2 d2 b2 : Nat → Int32}
/-- the case that a closing fires: one answer for both -/
theorem cs_shut {k n : Nat} {c : Int32} (hk : k < 8) (hn : n ≤ 4) (en : cn k = nI n) : ∃ a : Int32, (a = -4 ∨ ∃ j, j < 4 ∧ a = nI j) ∧
    (∀ post : Int32 → SX → Prop, wX_shutOn_22 post (nI k) a (nI P) (nI C) (nI L) st o1 f1 r1 d1 rm fs cn kd ch vl cp ow cl se re hd ln b1 li → wpX_shutOn post (nI P, nI C, nI L, st, o1, f1, r1, d1, rm, fs, cn, kd, ch, vl, cp, ow, cl, se, re, hd, ln, b1, li) (nI k) c) ∧
    (∀ Q : Int32 → Prop, Q a → wpY_caseOn (fun r_33 => (((0 ≤ r_33 → (Q r_33)) ∧ (¬ 0 ≤ r_33 → (wpY_caseOn (fun r_89 => (Q r_89)) (nI P, nI C, ub, nI Z, nI L, st, o2, f2, fs, r2, d2, rm, cn, kd, ch, vl, ow, ln, b2, se, re, cl, li) (nI k) c 0))))) (nI P, nI C, ub, nI Z, nI L, st, o2, f2, fs, r2, d2, rm, cn, kd, ch, vl, ow, ln, b2, se, re, cl, li) (nI k) c 1) := by
  rcases cs_lc_spec (ch := ch) (kd := kd) (c := c) (kind := 1) (p := k) n 0 with ⟨e, _⟩ | ⟨j, _, hj, _, e⟩
  · refine ⟨cs_lc ch kd c 0 k n 0, ?_, fun post h => ?_, fun Q h => ?_⟩
    · rcases cs_lc_spec (ch := ch) (kd := kd) (c := c) (kind := 0) (p := k) n 0 with ⟨e, _⟩ | ⟨j, _, hj, _, e⟩
      · exact Or.inl e
      · exact Or.inr ⟨j, by omega, e⟩
    · unfold wpX_shutOn
      exact cs_xlow hk hn en (br_t e (cs_xlow hk hn en h))
    · exact cs_ylow hk hn en (br_f (by rw [e]; decide) (cs_ylow hk hn en h))
  · refine ⟨nI j, Or.inr ⟨j, by omega, rfl⟩, fun post h => ?_, fun Q h => ?_⟩
    · unfold wpX_shutOn
      refine cs_xlow hk hn en ?_
      rw [e]
      exact br_f (cs_nn4 (by omega)) h
    · refine cs_ylow hk hn en ?_
      rw [e]
      exact br_t (cs_pos' (by omega)) h
end
theorem cs_clo {P C Z : Nat} {ub : Int32} {rm fs cn kd ch vl cp ow cl se re hd ln b1 b2 : Nat → Int32} (c : Int32) (hB : cs_B Z ub cp hd ln b1 b2) :
    ∀ (d k : Nat) (ct : Int32) (L : Nat) (st o1 f1 r1 d1 li o2 f2 r2 d2 : Nat → Int32), k + d = P → cs_K P C L st cn kd ch fs li → cs_D st o1 f1 r1 d1 o2 f2 r2 d2 →
    ∃ (r : Int32) (u' : SX) (v' : SY), cs_Rel u' v' ∧ (∀ post : Int32 → SX → Prop, post r u' → wX_close_47 post c (d + 1) ct (nI k) (nI P) (nI C) (nI L) st o1 f1 r1 d1 rm fs cn kd ch vl cp ow cl se re hd ln b1 li) ∧
      (∀ post : Int32 → SY → Prop, post r v' → wY_close_47 post c (d + 1) ct (nI k) (nI P) (nI C) ub (nI Z) (nI L) st o2 f2 fs r2 d2 rm cn kd ch vl ow ln b2 se re cl li) := by
  intro d
  induction d with
  | zero =>
    intro k ct L st o1 f1 r1 d1 li o2 f2 r2 d2 hk hK hD
    have hP := cs_K_P hK
    exact ⟨ct, (nI P, nI C, nI L, st, o1, f1, r1, d1, rm, fs, cn, kd, ch, vl, cp, ow, cl, se, re, hd, ln, b1, li), (nI P, nI C, ub, nI Z, nI L, st, o2, f2, fs, r2, d2, rm, cn, kd, ch, vl, ow, ln, b2, se, re, cl, li), cs_mk hK hB hD, fun post h => br_t (nI_le (by omega) (by omega)) h, fun post h => br_t (nI_le (by omega) (by omega)) h⟩
  | succ d ih =>
    intro k ct L st o1 f1 r1 d1 li o2 f2 r2 d2 hk hK hD
    have hP := cs_K_P hK
    have hk8 : k < 8 := by omega
    obtain ⟨n, hn, en⟩ := cs_K_cn hK k
    obtain ⟨a, ha, aX, aY⟩ := cs_shut (P := P) (C := C) (L := L) (Z := Z) (ub := ub) (st := st) (o1 := o1) (f1 := f1) (r1 := r1) (d1 := d1) (rm := rm) (fs := fs) (cn := cn) (kd := kd) (ch := ch) (vl := vl) (cp := cp) (ow := ow) (cl := cl) (se := se) (re := re) (hd := hd) (ln := ln) (b1 := b1) (li := li) (o2 := o2) (f2 := f2) (r2 := r2) (d2 := d2) (b2 := b2) (c := c) hk8 hn en
    by_cases s : st k = 2
    · rcases ha with e | ⟨j, hj, e⟩
      · subst e
        obtain ⟨r, u, v, hR, gX, gY⟩ := ih (k + 1) ct L st o1 f1 r1 d1 li o2 f2 r2 d2 (by omega) hK hD
        refine ⟨r, u, v, hR, fun post h => ?_, fun post h => ?_⟩
        · refine br_f (nI_ge (by omega) (by omega)) ⟨cs_in8 hk8, ?_⟩
          rw [cs_cl (show k < 64 by omega)]
          refine br_t s (aX _ ?_)
          unfold wX_shutOn_22
          exact br_t rfl (br_t rfl (nm_r (nI_1 k) (gX post h)))
        · refine br_f (nI_ge (by omega) (by omega)) (aY (fun r => wY_close_78 post (wY_close_47 post c (d + 1)) c ct (nI k) r (nI P) (nI C) ub (nI Z) (nI L) st o2 f2 fs r2 d2 rm cn kd ch vl ow ln b2 se re cl li) ?_)
          show wY_close_78 post (wY_close_47 post c (d + 1)) c ct (nI k) (-4) (nI P) (nI C) ub (nI Z) (nI L) st o2 f2 fs r2 d2 rm cn kd ch vl ow ln b2 se re cl li
          unfold wY_close_78
          rw [cs_cl (show k < 64 by omega)]
          exact ⟨cs_in8 hk8, br_t s (br_t (by decide) (nm_r (nI_1 k) (gY post h)))⟩
      · subst e
        obtain ⟨r, u, v, hR, gX, gY⟩ := ih (k + 1) (ct + 1) (cs_lv (nI k) L 0 0 li).1 (upd st k 3) (upd o1 k 2) (upd f1 k (nI j)) (upd r1 k 0) (upd d1 k 0) (cs_lv (nI k) L 0 0 li).2 (upd o2 k 2) (upd f2 k (nI j)) (upd r2 k 0) (upd d2 k 0)
          (by omega) (cs_K_done hK k (by omega)) (cs_D_done hD k (Or.inr (Or.inl ⟨rfl, rfl, rfl⟩)))
        refine ⟨r, u, v, hR, fun post h => ?_, fun post h => ?_⟩
        · refine br_f (nI_ge (by omega) (by omega)) ⟨cs_in8 hk8, ?_⟩
          rw [cs_cl (show k < 64 by omega)]
          refine br_t s (aX _ ?_)
          unfold wX_shutOn_22
          exact br_f (cs_nn4 (by omega)) (cs_xcomp (cs_K_L hK) hk8 (br_f (by decide) (nm_e (nm_r (nI_1 k) (gX post h)))))
        · refine br_f (nI_ge (by omega) (by omega)) (aY (fun r => wY_close_78 post (wY_close_47 post c (d + 1)) c ct (nI k) r (nI P) (nI C) ub (nI Z) (nI L) st o2 f2 fs r2 d2 rm cn kd ch vl ow ln b2 se re cl li) ?_)
          show wY_close_78 post (wY_close_47 post c (d + 1)) c ct (nI k) (nI j) (nI P) (nI C) ub (nI Z) (nI L) st o2 f2 fs r2 d2 rm cn kd ch vl ow ln b2 se re cl li
          unfold wY_close_78
          rw [cs_cl (show k < 64 by omega)]
          exact ⟨cs_in8 hk8, br_t s (br_f (cs_pos (by omega)) (cs_ycomp (cs_K_L hK) hk8 (nm_e (nm_r (nI_1 k) (gY post h)))))⟩
    · obtain ⟨r, u, v, hR, gX, gY⟩ := ih (k + 1) ct L st o1 f1 r1 d1 li o2 f2 r2 d2 (by omega) hK hD
      refine ⟨r, u, v, hR, fun post h => ?_, fun post h => ?_⟩
      · refine br_f (nI_ge (by omega) (by omega)) ⟨cs_in8 hk8, ?_⟩
        rw [cs_cl (show k < 64 by omega)]
        exact br_f s (nm_r (nI_1 k) (gX post h))
      · refine br_f (nI_ge (by omega) (by omega)) (aY (fun r => wY_close_78 post (wY_close_47 post c (d + 1)) c ct (nI k) r (nI P) (nI C) ub (nI Z) (nI L) st o2 f2 fs r2 d2 rm cn kd ch vl ow ln b2 se re cl li) ?_)
        show wY_close_78 post (wY_close_47 post c (d + 1)) c ct (nI k) a (nI P) (nI C) ub (nI Z) (nI L) st o2 f2 fs r2 d2 rm cn kd ch vl ow ln b2 se re cl li
        unfold wY_close_78
        rw [cs_cl (show k < 64 by omega)]
        exact ⟨cs_in8 hk8, br_f s (nm_r (nI_1 k) (gY post h))⟩
theorem cs_L_close {u : SX} {v : SY} (x1 : Int32) (I : cs_Rel u v) : ∃ (r : Int32) (u' : SX) (v' : SY), cs_Rel u' v' ∧
    (∀ post : Int32 → SX → Prop, post r u' → wpX_close post u x1) ∧ (∀ post : Int32 → SY → Prop, post r v' → wpY_close post v x1) := by
  refine cs_el (Q := fun u v => ∃ (r : Int32) (u' : SX) (v' : SY), cs_Rel u' v' ∧
    (∀ post : Int32 → SX → Prop, post r u' → wpX_close post u x1) ∧ (∀ post : Int32 → SY → Prop, post r v' → wpY_close post v x1)) ?_ I
  intro P C L Z ub st o1 f1 r1 d1 rm fs cn kd ch vl cp ow cl se re hd ln b1 li o2 f2 r2 d2 b2 hK hB hD
  have hC := cs_K_C hK
  have R := cs_mk (rm := rm) (vl := vl) (ow := ow) (cl := cl) (se := se) (re := re) hK hB hD
  rcases or_assoc.mpr (pk_ix x1 (n := C) (by omega)) with hx | ⟨c, hc, rfl⟩
  · refine ⟨-1, _, _, R, fun post h => ?_, fun post h => ?_⟩
    · unfold wpX_close
      exact cs_xC0 hx (br_t rfl h)
    · unfold wpY_close
      exact cs_yC1 hx (br_f (by decide) h)
  have hc8 : c < 8 := by omega
  by_cases z : ow c = -4
  rotate_left
  · refine ⟨-5, _, _, R, fun post h => ?_, fun post h => ?_⟩
    · unfold wpX_close
      dsimp only
      rw [cs_cl (show c < 64 by omega)]
      exact cs_xC1 hc hC (br_f (by decide) ⟨cs_in8 hc8, br_f z h⟩)
    · unfold wpY_close
      dsimp only
      rw [cs_cl (show c < 64 by omega)]
      exact cs_yC0 hc hC (br_t rfl ⟨cs_in8 hc8, br_f z h⟩)
  by_cases y : cl c = 0
  rotate_left
  · refine ⟨-2, _, _, R, fun post h => ?_, fun post h => ?_⟩
    · unfold wpX_close
      dsimp only
      rw [cs_cl (show c < 64 by omega)]
      exact cs_xC1 hc hC (br_f (by decide) ⟨cs_in8 hc8, br_t z ⟨cs_in8 hc8, br_f y h⟩⟩)
    · unfold wpY_close
      dsimp only
      rw [cs_cl (show c < 64 by omega)]
      exact cs_yC0 hc hC (br_t rfl ⟨cs_in8 hc8, br_t z ⟨cs_in8 hc8, br_f y h⟩⟩)
  obtain ⟨r, u, v, hR, gX, gY⟩ := cs_clo (rm := rm) (vl := vl) (ow := ow) (cl := upd cl c (vp_nar .boolean 1)) (se := se) (re := re) (nI c) hB P 0 0 L st o1 f1 r1 d1 li o2 f2 r2 d2 (by omega) hK hD
  refine ⟨r, u, v, hR, fun post h => ?_, fun post h => ?_⟩
  · unfold wpX_close
    dsimp only
    rw [cs_cl (show c < 64 by omega)]
    exact cs_xC1 hc hC (br_f (by decide) ⟨cs_in8 hc8, br_t z ⟨cs_in8 hc8, br_t y ⟨cs_in8 hc8, nm_e ⟨_, gX post h⟩⟩⟩⟩)
  · unfold wpY_close
    dsimp only
    rw [cs_cl (show c < 64 by omega)]
    exact cs_yC0 hc hC (br_t rfl ⟨cs_in8 hc8, br_t z ⟨cs_in8 hc8, br_t y ⟨cs_in8 hc8, nm_e ⟨_, gY post h⟩⟩⟩⟩)
/-! tick -/
theorem cs_tik {P C Z : Nat} {ub : Int32} {fs cn kd ch vl cp ow cl se re hd ln b1 b2 : Nat → Int32} (t : Int32) (hB : cs_B Z ub cp hd ln b1 b2) :
    ∀ (d k : Nat) (ct : Int32) (L : Nat) (st o1 f1 r1 d1 rm li o2 f2 r2 d2 : Nat → Int32), k + d = P → cs_K P C L st cn kd ch fs li → cs_D st o1 f1 r1 d1 o2 f2 r2 d2 →
    ∃ (r : Int32) (u' : SX) (v' : SY), cs_Rel u' v' ∧ (∀ post : Int32 → SX → Prop, post r u' → wX_tick_15 post t (d + 1) ct (nI k) (nI P) (nI C) (nI L) st o1 f1 r1 d1 rm fs cn kd ch vl cp ow cl se re hd ln b1 li) ∧
      (∀ post : Int32 → SY → Prop, post r v' → wY_tick_15 post t (d + 1) ct (nI k) (nI P) (nI C) ub (nI Z) (nI L) st o2 f2 fs r2 d2 rm cn kd ch vl ow ln b2 se re cl li) := by
  intro d
  induction d with
  | zero =>
    intro k ct L st o1 f1 r1 d1 rm li o2 f2 r2 d2 hk hK hD
    have hP := cs_K_P hK
    exact ⟨ct, (nI P, nI C, nI L, st, o1, f1, r1, d1, rm, fs, cn, kd, ch, vl, cp, ow, cl, se, re, hd, ln, b1, li), (nI P, nI C, ub, nI Z, nI L, st, o2, f2, fs, r2, d2, rm, cn, kd, ch, vl, ow, ln, b2, se, re, cl, li), cs_mk hK hB hD, fun post h => br_t (nI_le (by omega) (by omega)) h, fun post h => br_t (nI_le (by omega) (by omega)) h⟩
  | succ d ih =>
    intro k ct L st o1 f1 r1 d1 rm li o2 f2 r2 d2 hk hK hD
    have hP := cs_K_P hK
    have hk8 : k < 8 := by omega
    by_cases s : st k = 2
    rotate_left
    · obtain ⟨r, u, v, hR, gX, gY⟩ := ih (k + 1) ct L st o1 f1 r1 d1 rm li o2 f2 r2 d2 (by omega) hK hD
      refine ⟨r, u, v, hR, fun post h => ?_, fun post h => ?_⟩
      · refine br_f (nI_ge (by omega) (by omega)) ⟨cs_in8 hk8, ?_⟩
        rw [cs_cl (show k < 64 by omega)]
        exact br_f s (nm_r (nI_1 k) (gX post h))
      · refine br_f (nI_ge (by omega) (by omega)) ⟨cs_in8 hk8, ?_⟩
        rw [cs_cl (show k < 64 by omega)]
        exact br_f s (nm_r (nI_1 k) (gY post h))
    by_cases z : rm k = -6
    · obtain ⟨r, u, v, hR, gX, gY⟩ := ih (k + 1) ct L st o1 f1 r1 d1 rm li o2 f2 r2 d2 (by omega) hK hD
      refine ⟨r, u, v, hR, fun post h => ?_, fun post h => ?_⟩
      · refine br_f (nI_ge (by omega) (by omega)) ⟨cs_in8 hk8, ?_⟩
        rw [cs_cl (show k < 64 by omega)]
        exact br_t s ⟨cs_in8 hk8, br_t z (nm_r (nI_1 k) (gX post h))⟩
      · refine br_f (nI_ge (by omega) (by omega)) ⟨cs_in8 hk8, ?_⟩
        rw [cs_cl (show k < 64 by omega)]
        exact br_t s ⟨cs_in8 hk8, br_t z (nm_r (nI_1 k) (gY post h))⟩
    by_cases y : rm k ≤ t
    · obtain ⟨r, u, v, hR, gX, gY⟩ := ih (k + 1) (ct + 1) (cs_lv (nI k) L 0 0 li).1 (upd st k 3) (upd o1 k 3) (upd f1 k (-4)) (upd r1 k 0) (upd d1 k 0) rm (cs_lv (nI k) L 0 0 li).2 (upd o2 k 3) (upd f2 k (-4)) (upd r2 k 0) (upd d2 k 0)
        (by omega) (cs_K_done hK k (by omega)) (cs_D_done hD k (Or.inr (Or.inr ⟨rfl, rfl, rfl, rfl⟩)))
      refine ⟨r, u, v, hR, fun post h => ?_, fun post h => ?_⟩
      · refine br_f (nI_ge (by omega) (by omega)) ⟨cs_in8 hk8, ?_⟩
        rw [cs_cl (show k < 64 by omega)]
        exact br_t s ⟨cs_in8 hk8, br_f z ⟨cs_in8 hk8, br_t y (cs_xcomp (cs_K_L hK) hk8 (nm_e (nm_r (nI_1 k) (gX post h))))⟩⟩
      · refine br_f (nI_ge (by omega) (by omega)) ⟨cs_in8 hk8, ?_⟩
        rw [cs_cl (show k < 64 by omega)]
        exact br_t s ⟨cs_in8 hk8, br_f z ⟨cs_in8 hk8, br_t y (cs_ycomp (cs_K_L hK) hk8 (nm_e (nm_r (nI_1 k) (gY post h))))⟩⟩
    · obtain ⟨r, u, v, hR, gX, gY⟩ := ih (k + 1) ct L st o1 f1 r1 d1 (upd rm k (rm k - t)) li o2 f2 r2 d2 (by omega) hK hD
      refine ⟨r, u, v, hR, fun post h => ?_, fun post h => ?_⟩
      · refine br_f (nI_ge (by omega) (by omega)) ⟨cs_in8 hk8, ?_⟩
        rw [cs_cl (show k < 64 by omega)]
        exact br_t s ⟨cs_in8 hk8, br_f z ⟨cs_in8 hk8, br_f y ⟨cs_in8 hk8, cs_in8 hk8, nm_e (nm_r (nI_1 k) (gX post h))⟩⟩⟩
      · refine br_f (nI_ge (by omega) (by omega)) ⟨cs_in8 hk8, ?_⟩
        rw [cs_cl (show k < 64 by omega)]
        exact br_t s ⟨cs_in8 hk8, br_f z ⟨cs_in8 hk8, br_f y ⟨cs_in8 hk8, cs_in8 hk8, nm_e (nm_r (nI_1 k) (gY post h))⟩⟩⟩
theorem cs_L_tick {u : SX} {v : SY} (x1 : Int32) (I : cs_Rel u v) : ∃ (r : Int32) (u' : SX) (v' : SY), cs_Rel u' v' ∧
    (∀ post : Int32 → SX → Prop, post r u' → wpX_tick post u x1) ∧ (∀ post : Int32 → SY → Prop, post r v' → wpY_tick post v x1) := by
  refine cs_el (Q := fun u v => ∃ (r : Int32) (u' : SX) (v' : SY), cs_Rel u' v' ∧
    (∀ post : Int32 → SX → Prop, post r u' → wpX_tick post u x1) ∧ (∀ post : Int32 → SY → Prop, post r v' → wpY_tick post v x1)) ?_ I
  intro P C L Z ub st o1 f1 r1 d1 rm fs cn kd ch vl cp ow cl se re hd ln b1 li o2 f2 r2 d2 b2 hK hB hD
  obtain ⟨r, u, v, hR, gX, gY⟩ := cs_tik (vl := vl) (ow := ow) (cl := cl) (se := se) (re := re) (cs_cv x1 0 1000) hB P 0 0 L st o1 f1 r1 d1 rm li o2 f2 r2 d2 (by omega) hK hD
  refine ⟨r, u, v, hR, fun post h => ?_, fun post h => ?_⟩
  · unfold wpX_tick
    exact cs_xclamp ⟨_, gX post h⟩
  · unfold wpY_tick
    exact cs_yclamp ⟨_, gY post h⟩
end
section
/-! reads -/
theorem cs_le8 {x : Int32} (h0 : ¬ x < 0) (h : x ≤ 8) : x = 0 ∨ x = 1 ∨ x = 2 ∨ x = 3 ∨ x = 4 ∨ x = 5 ∨ x = 6 ∨ x = 7 ∨ x = 8 := by
  obtain ⟨j, hj, rfl⟩ := nI_of2 (M := 8) (n := 8) (by decide) h0 h
  have : j = 0 ∨ j = 1 ∨ j = 2 ∨ j = 3 ∨ j = 4 ∨ j = 5 ∨ j = 6 ∨ j = 7 ∨ j = 8 := by omega
  rcases this with e | e | e | e | e | e | e | e | e <;> (subst e; decide)
theorem cs_le7 {x : Int32} (h0 : ¬ x < 0) (h : x ≤ 7) : x = 0 ∨ x = 1 ∨ x = 2 ∨ x = 3 ∨ x = 4 ∨ x = 5 ∨ x = 6 ∨ x = 7 := by
  obtain ⟨j, hj, rfl⟩ := nI_of2 (M := 7) (n := 7) (by decide) h0 h
  have : j = 0 ∨ j = 1 ∨ j = 2 ∨ j = 3 ∨ j = 4 ∨ j = 5 ∨ j = 6 ∨ j = 7 := by omega
  rcases this with e | e | e | e | e | e | e | e <;> (subst e; decide)
section
variable {P C L Z : Nat} {ub : Int32} {st o1 f1 r1 d1 rm fs cn kd ch vl cp ow cl se re hd ln b1 li o2 f2 r2 d2 b2 : Nat → Int32}
/-- the outcome that the reference reckons is the component's -/
theorem cs_yout {post : Int32 → Prop} {p : Nat} {w : Int32} (hP : P ≤ 8) (hD : cs_D st o1 f1 r1 d1 o2 f2 r2 d2) (hp : p < P) (w0 : ¬ w < 0) (w8 : w ≤ 8)
    (h : wY_process_42 post (nI p) w (st p) (o1 p) (nI P) (nI C) ub (nI Z) (nI L) st o2 f2 fs r2 d2 rm cn kd ch vl ow ln b2 se re cl li) : wpY_process post (nI P, nI C, ub, nI Z, nI L, st, o2, f2, fs, r2, d2, rm, cn, kd, ch, vl, ow, ln, b2, se, re, cl, li) (nI p) w := by
  have hp8 : p < 8 := by omega
  have q := hD p hp8
  unfold wpY_process
  dsimp only
  rw [cs_cl (show p < 64 by omega)]
  refine cs_yP0 hp hP (br_t rfl (br_f w0 (br_t w8 ⟨cs_in8 hp8, nm_e (br_c (fun z => ⟨cs_in8 hp8, ?_⟩) (fun z => ?_))⟩)))
  · rw [(q.1 z).1]; exact h
  · rw [(q.2 z).1] at h; exact h
end

theorem cs_Q_process {u : SX} {v : SY} (x1 x2 : Int32) (I : cs_Rel u v) : ∃ r : Int32, (∀ post : Int32 → Prop, post r → wpX_process post u x1 x2) ∧ (∀ post : Int32 → Prop, post r → wpY_process post v x1 x2) := by
  refine cs_el (Q := fun u v => ∃ r : Int32, (∀ post : Int32 → Prop, post r → wpX_process post u x1 x2) ∧ (∀ post : Int32 → Prop, post r → wpY_process post v x1 x2)) ?_ I
  intro P C L Z ub st o1 f1 r1 d1 rm fs cn kd ch vl cp ow cl se re hd ln b1 li o2 f2 r2 d2 b2 hK hB hD
  have hP := cs_K_P hK
  have hC := cs_K_C hK
  rcases or_assoc.mpr (pk_ix x1 (n := P) (by omega)) with hx | ⟨p, hp, rfl⟩
  · refine ⟨-1, fun post h => ?_, fun post h => ?_⟩
    · unfold wpX_process
      exact cs_xP0 hx (br_t rfl h)
    · unfold wpY_process
      exact cs_yP1 hx (br_f (by decide) h)
  have hp8 : p < 8 := by omega
  have hd1 := hD p hp8
  by_cases w0 : x2 < 0
  · refine ⟨-1, fun post h => ?_, fun post h => ?_⟩
    · unfold wpX_process
      exact cs_xP1 hp hP (br_f (by decide) (br_t w0 h))
    · unfold wpY_process
      exact cs_yP0 hp hP (br_t rfl (br_t w0 h))
  by_cases w8 : x2 ≤ 8
  rotate_left
  · refine ⟨-1, fun post h => ?_, fun post h => ?_⟩
    · unfold wpX_process
      exact cs_xP1 hp hP (br_f (by decide) (br_f w0 (br_t (Int32.not_le.mp w8) h)))
    · unfold wpY_process
      exact cs_yP0 hp hP (br_t rfl (br_f w0 (br_f w8 h)))
  rcases cs_le8 w0 w8 with e | e | e | e | e | e | e | e | e
  · subst e
    refine ⟨st p, fun post h => ?_, fun post h => ?_⟩
    · unfold wpX_process
      dsimp only
      rw [cs_cl (show p < 64 by omega)]
      exact cs_xP1 hp hP (br_f (by decide) (br_f (by decide) (br_f (by decide) (br_t rfl (⟨cs_in8 hp8, h⟩)))))
    · refine cs_yout hP hD hp w0 w8 ?_
      unfold wY_process_42
      exact br_t rfl (h)
  · subst e
    refine ⟨o1 p, fun post h => ?_, fun post h => ?_⟩
    · unfold wpX_process
      dsimp only
      rw [cs_cl (show p < 64 by omega)]
      exact cs_xP1 hp hP (br_f (by decide) (br_f (by decide) (br_f (by decide) (br_f (by decide) (br_t rfl (⟨cs_in8 hp8, h⟩))))))
    · refine cs_yout hP hD hp w0 w8 ?_
      unfold wY_process_42
      exact br_f (by decide) (br_t rfl (h))
  · subst e
    refine ⟨f1 p, fun post h => ?_, fun post h => ?_⟩
    · unfold wpX_process
      dsimp only
      rw [cs_cl (show p < 64 by omega)]
      exact cs_xP1 hp hP (br_f (by decide) (br_f (by decide) (br_f (by decide) (br_f (by decide) (br_f (by decide) (br_t rfl (⟨cs_in8 hp8, h⟩)))))))
    · refine cs_yout hP hD hp w0 w8 ?_
      unfold wY_process_42
      rw [cs_cl (show p < 64 by omega)]
      refine br_f (by decide) (br_f (by decide) (br_t rfl (?_)))
      by_cases z : st p = 3
      · rcases (hd1.1 z).2 with ⟨e1, e2, e3, e4⟩ | ⟨e1, e2, e3, e4⟩ | ⟨e1, e2, e3, e4⟩
        · exact br_t e1 ⟨cs_in8 hp8, by rw [e2]; exact h⟩
        · exact br_f (by rw [e1]; decide) (br_t e1 ⟨cs_in8 hp8, by rw [e2]; exact h⟩)
        · exact br_f (by rw [e1]; decide) (br_f (by rw [e1]; decide) (by rw [← e2]; exact h))
      · obtain ⟨e1, e2, e3, e4⟩ := hd1.2 z
        exact br_f (by rw [e1]; decide) (br_f (by rw [e1]; decide) (by rw [← e2]; exact h))
  · subst e
    refine ⟨r1 p, fun post h => ?_, fun post h => ?_⟩
    · unfold wpX_process
      dsimp only
      rw [cs_cl (show p < 64 by omega)]
      exact cs_xP1 hp hP (br_f (by decide) (br_f (by decide) (br_f (by decide) (br_f (by decide) (br_f (by decide) (br_f (by decide) (br_t rfl (⟨cs_in8 hp8, h⟩))))))))
    · refine cs_yout hP hD hp w0 w8 ?_
      unfold wY_process_42
      rw [cs_cl (show p < 64 by omega)]
      refine br_f (by decide) (br_f (by decide) (br_f (by decide) (br_t rfl (?_))))
      by_cases z : st p = 3
      · rcases (hd1.1 z).2 with ⟨e1, e2, e3, e4⟩ | ⟨e1, e2, e3, e4⟩ | ⟨e1, e2, e3, e4⟩
        · exact br_t e1 ⟨cs_in8 hp8, by rw [e3]; exact h⟩
        · exact br_f (by rw [e1]; decide) (by rw [← e3]; exact h)
        · exact br_f (by rw [e1]; decide) (by rw [← e3]; exact h)
      · obtain ⟨e1, e2, e3, e4⟩ := hd1.2 z
        exact br_f (by rw [e1]; decide) (by rw [← e3]; exact h)
  · subst e
    refine ⟨d1 p, fun post h => ?_, fun post h => ?_⟩
    · unfold wpX_process
      dsimp only
      rw [cs_cl (show p < 64 by omega)]
      exact cs_xP1 hp hP (br_f (by decide) (br_f (by decide) (br_f (by decide) (br_f (by decide) (br_f (by decide) (br_f (by decide) (br_f (by decide) (br_t rfl (⟨cs_in8 hp8, h⟩)))))))))
    · refine cs_yout hP hD hp w0 w8 ?_
      unfold wY_process_42
      rw [cs_cl (show p < 64 by omega)]
      refine br_f (by decide) (br_f (by decide) (br_f (by decide) (br_f (by decide) (br_t rfl (?_)))))
      by_cases z : st p = 3
      · rcases (hd1.1 z).2 with ⟨e1, e2, e3, e4⟩ | ⟨e1, e2, e3, e4⟩ | ⟨e1, e2, e3, e4⟩
        · exact br_t e1 ⟨cs_in8 hp8, by rw [e4]; exact h⟩
        · exact br_f (by rw [e1]; decide) (by rw [← e4]; exact h)
        · exact br_f (by rw [e1]; decide) (by rw [← e4]; exact h)
      · obtain ⟨e1, e2, e3, e4⟩ := hd1.2 z
        exact br_f (by rw [e1]; decide) (by rw [← e4]; exact h)
  · subst e
    by_cases z : st p = 1
    · refine ⟨rm p, fun post h => ?_, fun post h => ?_⟩
      · unfold wpX_process
        dsimp only
        rw [cs_cl (show p < 64 by omega)]
        exact cs_xP1 hp hP (br_f (by decide) (br_f (by decide) (br_f (by decide) (br_f (by decide) (br_f (by decide) (br_f (by decide) (br_f (by decide) (br_f (by decide) (br_t rfl (⟨cs_in8 hp8, br_t z ⟨cs_in8 hp8, h⟩⟩))))))))))
      · refine cs_yout hP hD hp w0 w8 ?_
        unfold wY_process_42
        rw [cs_cl (show p < 64 by omega)]
        exact br_f (by decide) (br_f (by decide) (br_f (by decide) (br_f (by decide) (br_f (by decide) (br_t rfl (br_t z ⟨cs_in8 hp8, h⟩))))))
    · by_cases y : st p = 2
      · refine ⟨rm p, fun post h => ?_, fun post h => ?_⟩
        · unfold wpX_process
          dsimp only
          rw [cs_cl (show p < 64 by omega)]
          exact cs_xP1 hp hP (br_f (by decide) (br_f (by decide) (br_f (by decide) (br_f (by decide) (br_f (by decide) (br_f (by decide) (br_f (by decide) (br_f (by decide) (br_t rfl (⟨cs_in8 hp8, br_f z ⟨cs_in8 hp8, br_t y ⟨cs_in8 hp8, h⟩⟩⟩))))))))))
        · refine cs_yout hP hD hp w0 w8 ?_
          unfold wY_process_42
          rw [cs_cl (show p < 64 by omega)]
          exact br_f (by decide) (br_f (by decide) (br_f (by decide) (br_f (by decide) (br_f (by decide) (br_t rfl (br_f z (br_t y ⟨cs_in8 hp8, h⟩)))))))
      · refine ⟨0, fun post h => ?_, fun post h => ?_⟩
        · unfold wpX_process
          dsimp only
          rw [cs_cl (show p < 64 by omega)]
          exact cs_xP1 hp hP (br_f (by decide) (br_f (by decide) (br_f (by decide) (br_f (by decide) (br_f (by decide) (br_f (by decide) (br_f (by decide) (br_f (by decide) (br_t rfl (⟨cs_in8 hp8, br_f z ⟨cs_in8 hp8, br_f y h⟩⟩))))))))))
        · refine cs_yout hP hD hp w0 w8 ?_
          unfold wY_process_42
          exact br_f (by decide) (br_f (by decide) (br_f (by decide) (br_f (by decide) (br_f (by decide) (br_t rfl (br_f z (br_f y h)))))))
  · subst e
    by_cases z : st p = 1
    · obtain ⟨n, hn, en⟩ := cs_K_cn hK p
      obtain ⟨m, hm⟩ := cs_ms_ex (ow := ow) (p := p) hC (cs_K_ch hK) n
      have kX : ∀ (post : Int32 → Prop), ((m = (-4) → (post (-4))) ∧ (¬ m = (-4) → (vp_in m 8 ∧ (post (ow m.toNatClampNeg))))) → wpX_process post (nI P, nI C, nI L, st, o1, f1, r1, d1, rm, fs, cn, kd, ch, vl, cp, ow, cl, se, re, hd, ln, b1, li) (nI p) 6 := by
        intro post h
        unfold wpX_process
        dsimp only
        refine cs_xP1 hp hP (br_f (by decide) (br_f (by decide) (br_f (by decide) (br_f (by decide) (br_f (by decide) (br_f (by decide) (br_f (by decide) (br_f (by decide) (br_f (by decide) (br_t rfl ?_))))))))))
        unfold wpX_blocker
        dsimp only
        rw [cs_cl (show p < 64 by omega)]
        exact ⟨cs_in8 hp8, br_t z (cs_xmissE hp8 hC hn en (cs_K_ch hK) hm h)⟩
      have kY : ∀ (post : Int32 → Prop), wY_process_207 post m (nI P) (nI C) ub (nI Z) (nI L) st o2 f2 fs r2 d2 rm cn kd ch vl ow ln b2 se re cl li → wpY_process post (nI P, nI C, ub, nI Z, nI L, st, o2, f2, fs, r2, d2, rm, cn, kd, ch, vl, ow, ln, b2, se, re, cl, li) (nI p) 6 := by
        intro post h
        refine cs_yout hP hD hp w0 w8 ?_
        unfold wY_process_42
        exact br_f (by decide) (br_f (by decide) (br_f (by decide) (br_f (by decide) (br_f (by decide) (br_f (by decide) (br_f (by decide) (br_f (by decide) (br_t z (cs_ymiss (cs_K_kd hK) hp8 hC hn en hm h)))))))))
      rcases cs_ms_or hm with e | ⟨b, hb, e⟩
      · subst e
        refine ⟨-4, fun post h => kX post (br_t rfl h), fun post h => kY post ?_⟩
        unfold wY_process_207
        exact br_t (by decide) h
      · subst e
        refine ⟨ow b, fun post h => kX post (br_f (cs_nn4 (by omega)) ⟨cs_in8 (by omega), by rw [cs_cl (show b < 64 by omega)]; exact h⟩), fun post h => kY post ?_⟩
        unfold wY_process_207
        exact br_f (cs_pos (by omega)) ⟨cs_in8 (by omega), by rw [cs_cl (show b < 64 by omega)]; exact h⟩
    · refine ⟨-4, fun post h => ?_, fun post h => ?_⟩
      · unfold wpX_process
        dsimp only
        refine cs_xP1 hp hP (br_f (by decide) (br_f (by decide) (br_f (by decide) (br_f (by decide) (br_f (by decide) (br_f (by decide) (br_f (by decide) (br_f (by decide) (br_f (by decide) (br_t rfl ?_))))))))))
        unfold wpX_blocker
        dsimp only
        rw [cs_cl (show p < 64 by omega)]
        exact ⟨cs_in8 hp8, br_f z h⟩
      · refine cs_yout hP hD hp w0 w8 ?_
        unfold wY_process_42
        refine br_f (by decide) (br_f (by decide) (br_f (by decide) (br_f (by decide) (br_f (by decide) (br_f (by decide) (br_f (by decide) (br_f (by decide) (br_f z ?_))))))))
        unfold wY_process_207
        exact br_t (by decide) h
  · subst e
    refine ⟨cn p, fun post h => ?_, fun post h => ?_⟩
    · unfold wpX_process
      dsimp only
      rw [cs_cl (show p < 64 by omega)]
      exact cs_xP1 hp hP (br_f (by decide) (br_f (by decide) (br_f (by decide) (br_f (by decide) (br_f (by decide) (br_f (by decide) (br_f (by decide) (br_f (by decide) (br_f (by decide) (br_f (by decide) (br_t rfl (⟨cs_in8 hp8, h⟩))))))))))))
    · refine cs_yout hP hD hp w0 w8 ?_
      unfold wY_process_42
      rw [cs_cl (show p < 64 by omega)]
      exact br_f (by decide) (br_f (by decide) (br_f (by decide) (br_f (by decide) (br_f (by decide) (br_f (by decide) (br_t rfl (⟨cs_in8 hp8, h⟩)))))))
  · subst e
    by_cases z : st p = 1
    · refine ⟨fs p, fun post h => ?_, fun post h => ?_⟩
      · unfold wpX_process
        dsimp only
        rw [cs_cl (show p < 64 by omega)]
        exact cs_xP1 hp hP (br_f (by decide) (br_f (by decide) (br_f (by decide) (br_f (by decide) (br_f (by decide) (br_f (by decide) (br_f (by decide) (br_f (by decide) (br_f (by decide) (br_f (by decide) (br_f (by decide) (br_t rfl (⟨cs_in8 hp8, br_t z ⟨cs_in8 hp8, h⟩⟩)))))))))))))
      · refine cs_yout hP hD hp w0 w8 ?_
        unfold wY_process_42
        rw [cs_cl (show p < 64 by omega)]
        exact br_f (by decide) (br_f (by decide) (br_f (by decide) (br_f (by decide) (br_f (by decide) (br_f (by decide) (br_f (by decide) (br_t rfl (br_t z ⟨cs_in8 hp8, h⟩))))))))
    · refine ⟨0, fun post h => ?_, fun post h => ?_⟩
      · unfold wpX_process
        dsimp only
        rw [cs_cl (show p < 64 by omega)]
        exact cs_xP1 hp hP (br_f (by decide) (br_f (by decide) (br_f (by decide) (br_f (by decide) (br_f (by decide) (br_f (by decide) (br_f (by decide) (br_f (by decide) (br_f (by decide) (br_f (by decide) (br_f (by decide) (br_t rfl (⟨cs_in8 hp8, br_f z h⟩)))))))))))))
      · refine cs_yout hP hD hp w0 w8 ?_
        unfold wY_process_42
        exact br_f (by decide) (br_f (by decide) (br_f (by decide) (br_f (by decide) (br_f (by decide) (br_f (by decide) (br_f (by decide) (br_t rfl (br_f z h))))))))
theorem cs_Q_channel {u : SX} {v : SY} (x1 x2 : Int32) (I : cs_Rel u v) : ∃ r : Int32, (∀ post : Int32 → Prop, post r → wpX_channel post u x1 x2) ∧ (∀ post : Int32 → Prop, post r → wpY_channel post v x1 x2) := by
  refine cs_el (Q := fun u v => ∃ r : Int32, (∀ post : Int32 → Prop, post r → wpX_channel post u x1 x2) ∧ (∀ post : Int32 → Prop, post r → wpY_channel post v x1 x2)) ?_ I
  intro P C L Z ub st o1 f1 r1 d1 rm fs cn kd ch vl cp ow cl se re hd ln b1 li o2 f2 r2 d2 b2 hK hB hD
  have hC := cs_K_C hK
  rcases or_assoc.mpr (pk_ix x1 (n := C) (by omega)) with hx | ⟨c, hc, rfl⟩
  · refine ⟨-1, fun post h => ?_, fun post h => ?_⟩
    · unfold wpX_channel
      exact cs_xC0 hx (br_t rfl h)
    · unfold wpY_channel
      exact cs_yC1 hx (br_f (by decide) h)
  have hc8 : c < 8 := by omega
  by_cases w0 : x2 < 0
  · refine ⟨-1, fun post h => ?_, fun post h => ?_⟩
    · unfold wpX_channel
      exact cs_xC1 hc hC (br_f (by decide) (br_t w0 h))
    · unfold wpY_channel
      exact cs_yC0 hc hC (br_t rfl (br_t w0 h))
  by_cases w7 : x2 ≤ 7
  rotate_left
  · refine ⟨-1, fun post h => ?_, fun post h => ?_⟩
    · unfold wpX_channel
      exact cs_xC1 hc hC (br_f (by decide) (br_f w0 (br_t (Int32.not_le.mp w7) h)))
    · unfold wpY_channel
      exact cs_yC0 hc hC (br_t rfl (br_f w0 (br_f w7 h)))
  rcases cs_le7 w0 w7 with e | e | e | e | e | e | e | e
  · subst e
    refine ⟨ow c, fun post h => ?_, fun post h => ?_⟩
    · unfold wpX_channel
      dsimp only
      rw [cs_cl (show c < 64 by omega)]
      exact cs_xC1 hc hC (br_f (by decide) (br_f (by decide) (br_f (by decide) (br_t rfl (⟨cs_in8 hc8, h⟩)))))
    · unfold wpY_channel
      dsimp only
      rw [cs_cl (show c < 64 by omega)]
      exact cs_yC0 hc hC (br_t rfl (br_f w0 (br_t w7 (br_t rfl (⟨cs_in8 hc8, h⟩)))))
  · subst e
    by_cases z : cl c = 0
    · refine ⟨0, fun post h => ?_, fun post h => ?_⟩
      · unfold wpX_channel
        dsimp only
        rw [cs_cl (show c < 64 by omega)]
        exact cs_xC1 hc hC (br_f (by decide) (br_f (by decide) (br_f (by decide) (br_f (by decide) (br_t rfl (⟨cs_in8 hc8, br_t z h⟩))))))
      · unfold wpY_channel
        dsimp only
        rw [cs_cl (show c < 64 by omega)]
        exact cs_yC0 hc hC (br_t rfl (br_f w0 (br_t w7 (br_f (by decide) (br_t rfl (⟨cs_in8 hc8, br_t z h⟩))))))
    · refine ⟨1, fun post h => ?_, fun post h => ?_⟩
      · unfold wpX_channel
        dsimp only
        rw [cs_cl (show c < 64 by omega)]
        exact cs_xC1 hc hC (br_f (by decide) (br_f (by decide) (br_f (by decide) (br_f (by decide) (br_t rfl (⟨cs_in8 hc8, br_f z h⟩))))))
      · unfold wpY_channel
        dsimp only
        rw [cs_cl (show c < 64 by omega)]
        exact cs_yC0 hc hC (br_t rfl (br_f w0 (br_t w7 (br_f (by decide) (br_t rfl (⟨cs_in8 hc8, br_f z h⟩))))))
  · subst e
    refine ⟨ln c, fun post h => ?_, fun post h => ?_⟩
    · unfold wpX_channel
      dsimp only
      rw [cs_cl (show c < 64 by omega)]
      exact cs_xC1 hc hC (br_f (by decide) (br_f (by decide) (br_f (by decide) (br_f (by decide) (br_f (by decide) (br_t rfl (⟨cs_in8 hc8, h⟩)))))))
    · unfold wpY_channel
      dsimp only
      rw [cs_cl (show c < 64 by omega)]
      exact cs_yC0 hc hC (br_t rfl (br_f w0 (br_t w7 (br_f (by decide) (br_f (by decide) (br_t rfl (⟨cs_in8 hc8, h⟩)))))))
  · subst e
    have hx := hB.2.1 c hc8
    refine ⟨cp c, fun post h => ?_, fun post h => ?_⟩
    · unfold wpX_channel
      dsimp only
      rw [cs_cl (show c < 64 by omega)]
      exact cs_xC1 hc hC (br_f (by decide) (br_f (by decide) (br_f (by decide) (br_f (by decide) (br_f (by decide) (br_f (by decide) (br_t rfl (⟨cs_in8 hc8, h⟩))))))))
    · unfold wpY_channel
      dsimp only
      rw [cs_cl (show c < 64 by omega)]
      refine cs_yC0 hc hC (br_t rfl (br_f w0 (br_t w7 (br_f (by decide) (br_f (by decide) (br_f (by decide) (br_t rfl (?_))))))))
      unfold wpY_capacityOf
      exact br_c (fun z => by rw [← hx.1 z]; exact h) (fun z => by rw [← hx.2 z]; exact h)
  · subst e
    refine ⟨se c, fun post h => ?_, fun post h => ?_⟩
    · unfold wpX_channel
      dsimp only
      rw [cs_cl (show c < 64 by omega)]
      exact cs_xC1 hc hC (br_f (by decide) (br_f (by decide) (br_f (by decide) (br_f (by decide) (br_f (by decide) (br_f (by decide) (br_f (by decide) (br_t rfl (⟨cs_in8 hc8, h⟩)))))))))
    · unfold wpY_channel
      dsimp only
      rw [cs_cl (show c < 64 by omega)]
      exact cs_yC0 hc hC (br_t rfl (br_f w0 (br_t w7 (br_f (by decide) (br_f (by decide) (br_f (by decide) (br_f (by decide) (br_t rfl (⟨cs_in8 hc8, h⟩)))))))))
  · subst e
    refine ⟨re c, fun post h => ?_, fun post h => ?_⟩
    · unfold wpX_channel
      dsimp only
      rw [cs_cl (show c < 64 by omega)]
      exact cs_xC1 hc hC (br_f (by decide) (br_f (by decide) (br_f (by decide) (br_f (by decide) (br_f (by decide) (br_f (by decide) (br_f (by decide) (br_f (by decide) (br_t rfl (⟨cs_in8 hc8, h⟩))))))))))
    · unfold wpY_channel
      dsimp only
      rw [cs_cl (show c < 64 by omega)]
      exact cs_yC0 hc hC (br_t rfl (br_f w0 (br_t w7 (br_f (by decide) (br_f (by decide) (br_f (by decide) (br_f (by decide) (br_f (by decide) (br_t rfl (⟨cs_in8 hc8, h⟩))))))))))
  · subst e
    refine ⟨nI (cs_ws ch kd (nI c) 0 cn li L 0).length, fun post h => ?_, fun post h => ?_⟩
    · unfold wpX_channel
      dsimp only
      exact cs_xC1 hc hC (br_f (by decide) (br_f (by decide) (br_f (by decide) (br_f (by decide) (br_f (by decide) (br_f (by decide) (br_f (by decide) (br_f (by decide) (br_f (by decide) (br_t rfl (cs_xcount hK h)))))))))))
    · unfold wpY_channel
      dsimp only
      exact cs_yC0 hc hC (br_t rfl (br_f w0 (br_t w7 (br_f (by decide) (br_f (by decide) (br_f (by decide) (br_f (by decide) (br_f (by decide) (br_f (by decide) (br_t rfl (cs_ycount hK hc (Or.inl rfl) h)))))))))))
  · subst e
    refine ⟨nI (cs_ws ch kd (nI c) 1 cn li L 0).length, fun post h => ?_, fun post h => ?_⟩
    · unfold wpX_channel
      dsimp only
      exact cs_xC1 hc hC (br_f (by decide) (br_f (by decide) (br_f (by decide) (br_f (by decide) (br_f (by decide) (br_f (by decide) (br_f (by decide) (br_f (by decide) (br_f (by decide) (br_f (by decide) (br_t rfl (cs_xcount hK h))))))))))))
    · unfold wpY_channel
      dsimp only
      exact cs_yC0 hc hC (br_t rfl (br_f w0 (br_t w7 (br_f (by decide) (br_f (by decide) (br_f (by decide) (br_f (by decide) (br_f (by decide) (br_f (by decide) (br_f (by decide) (cs_ycount hK hc (Or.inr rfl) h)))))))))))
end
section
theorem cs_Q_peek {u : SX} {v : SY} (x1 x2 : Int32) (I : cs_Rel u v) : ∃ r : Int32, (∀ post : Int32 → Prop, post r → wpX_peek post u x1 x2) ∧ (∀ post : Int32 → Prop, post r → wpY_peek post v x1 x2) := by
  refine cs_el (Q := fun u v => ∃ r : Int32, (∀ post : Int32 → Prop, post r → wpX_peek post u x1 x2) ∧ (∀ post : Int32 → Prop, post r → wpY_peek post v x1 x2)) ?_ I
  intro P C L Z ub st o1 f1 r1 d1 rm fs cn kd ch vl cp ow cl se re hd ln b1 li o2 f2 r2 d2 b2 hK hB hD
  have hC := cs_K_C hK
  rcases or_assoc.mpr (pk_ix x1 (n := C) (by omega)) with hx | ⟨c, hc, rfl⟩
  · refine ⟨0, fun post h => ?_, fun post h => ?_⟩
    · unfold wpX_peek
      exact cs_xC0 hx (br_t rfl h)
    · unfold wpY_peek
      exact cs_yC1 hx (br_f (by decide) h)
  have hc8 : c < 8 := by omega
  obtain ⟨h, l, hh, hl, eh, el, hb⟩ := cs_B_at hB hc8
  rcases pk_ix x2 (n := l) (by omega) with w | w | ⟨k, hk, rfl⟩
  · refine ⟨0, fun post h => ?_, fun post h => ?_⟩
    · unfold wpX_peek
      exact cs_xC1 hc hC (br_f (by decide) (br_t w h))
    · unfold wpY_peek
      exact cs_yC0 hc hC (br_t rfl (br_t w h))
  · have w0 : ¬ x2 < 0 := Int32.not_lt.mpr (Int32.le_trans (cs_pos' (by omega)) w)
    have w1 : ¬ x2 < nI l := Int32.not_lt.mpr w
    refine ⟨0, fun post h => ?_, fun post h => ?_⟩
    · unfold wpX_peek
      dsimp only
      rw [cs_cl (show c < 64 by omega), el]
      exact cs_xC1 hc hC (br_f (by decide) (br_f w0 ⟨cs_in8 hc8, br_f w1 h⟩))
    · unfold wpY_peek
      dsimp only
      rw [cs_cl (show c < 64 by omega), el]
      exact cs_yC0 hc hC (br_t rfl (br_f w0 ⟨cs_in8 hc8, br_f w1 h⟩))
  · refine ⟨b2 (8 * c + k), fun post g => ?_, fun post g => ?_⟩
    · unfold wpX_peek
      dsimp only
      rw [cs_cl (show c < 64 by omega), el, eh, nI_add, cs_a7 (by omega), cs_m8, cs_cl (show 8 * c + (h + k) % 8 < 64 by omega), hb k hk]
      exact cs_xC1 hc hC (br_f (by decide) (br_f (cs_pos (by omega)) ⟨cs_in8 hc8, br_t (nI_lt hk (by omega)) ⟨cs_in8 hc8, cs_in64 (by omega), g⟩⟩))
    · unfold wpY_peek
      dsimp only
      rw [cs_cl (show c < 64 by omega), el, cs_m8, cs_cl (show 8 * c + k < 64 by omega)]
      exact cs_yC0 hc hC (br_t rfl (br_f (cs_pos (by omega)) ⟨cs_in8 hc8, br_t (nI_lt hk (by omega)) ⟨cs_in64 (by omega), g⟩⟩))
theorem cs_Q_waiter {u : SX} {v : SY} (x1 x2 x3 : Int32) (I : cs_Rel u v) : ∃ r : Int32, (∀ post : Int32 → Prop, post r → wpX_waiter post u x1 x2 x3) ∧ (∀ post : Int32 → Prop, post r → wpY_waiter post v x1 x2 x3) := by
  refine cs_el (Q := fun u v => ∃ r : Int32, (∀ post : Int32 → Prop, post r → wpX_waiter post u x1 x2 x3) ∧ (∀ post : Int32 → Prop, post r → wpY_waiter post v x1 x2 x3)) ?_ I
  intro P C L Z ub st o1 f1 r1 d1 rm fs cn kd ch vl cp ow cl se re hd ln b1 li o2 f2 r2 d2 b2 hK hB hD
  have hC := cs_K_C hK
  rcases or_assoc.mpr (pk_ix x1 (n := C) (by omega)) with hx | ⟨c, hc, rfl⟩
  · refine ⟨-1, fun post h => ?_, fun post h => ?_⟩
    · unfold wpX_waiter
      exact cs_xC0 hx (br_t rfl h)
    · unfold wpY_waiter
      exact cs_yC1 hx (br_f (by decide) h)
  by_cases k01 : x2 = 0 ∨ x2 = 1
  · refine ⟨cs_fw x3 (cs_ws ch kd (nI c) x2 cn li L 0) 0, fun post h => ?_, fun post h => cs_yfind hK hc k01 h⟩
    unfold wpX_waiter
    refine cs_xC1 hc hC (br_f (by decide) ?_)
    unfold wpX_isKind
    rcases k01 with e | e
    · exact br_t e (br_f (by decide) (cs_xfind hK h))
    · exact br_c (fun _ => br_f (by decide) (cs_xfind hK h)) (fun _ => br_t e (br_f (by decide) (cs_xfind hK h)))
  · refine ⟨-1, fun post h => ?_, fun post h => ?_⟩
    · unfold wpX_waiter
      refine cs_xC1 hc hC (br_f (by decide) ?_)
      unfold wpX_isKind
      exact br_f (fun e => k01 (Or.inl e)) (br_f (fun e => k01 (Or.inr e)) (br_t rfl h))
    · unfold wpY_waiter
      exact cs_yC0 hc hC (br_t rfl (br_f (fun e => k01 (Or.inl e)) (br_f (fun e => k01 (Or.inr e)) h)))
theorem cs_Q_caseAt {u : SX} {v : SY} (x1 x2 x3 : Int32) (I : cs_Rel u v) : ∃ r : Int32, (∀ post : Int32 → Prop, post r → wpX_caseAt post u x1 x2 x3) ∧ (∀ post : Int32 → Prop, post r → wpY_caseAt post v x1 x2 x3) := by
  refine cs_el (Q := fun u v => ∃ r : Int32, (∀ post : Int32 → Prop, post r → wpX_caseAt post u x1 x2 x3) ∧ (∀ post : Int32 → Prop, post r → wpY_caseAt post v x1 x2 x3)) ?_ I
  intro P C L Z ub st o1 f1 r1 d1 rm fs cn kd ch vl cp ow cl se re hd ln b1 li o2 f2 r2 d2 b2 hK hB hD
  have hP := cs_K_P hK
  rcases or_assoc.mpr (pk_ix x1 (n := P) (by omega)) with hx | ⟨p, hp, rfl⟩
  · refine ⟨-1, fun post h => ?_, fun post h => ?_⟩
    · unfold wpX_caseAt
      exact cs_xP0 hx (br_t rfl h)
    · unfold wpY_caseAt
      exact cs_yP1 hx (br_f (by decide) h)
  have hp8 : p < 8 := by omega
  by_cases w0 : x3 < 0
  · refine ⟨-1, fun post h => ?_, fun post h => ?_⟩
    · unfold wpX_caseAt
      exact cs_xP1 hp hP (br_f (by decide) (br_t w0 h))
    · unfold wpY_caseAt
      exact cs_yP0 hp hP (br_t rfl (br_t w0 h))
  by_cases w2 : x3 ≤ 2
  rotate_left
  · refine ⟨-1, fun post h => ?_, fun post h => ?_⟩
    · unfold wpX_caseAt
      exact cs_xP1 hp hP (br_f (by decide) (br_f w0 (br_f w2 h)))
    · unfold wpY_caseAt
      exact cs_yP0 hp hP (br_t rfl (br_f w0 (br_f w2 h)))
  obtain ⟨n, hn, en⟩ := cs_K_cn hK p
  rcases pk_ix x2 (n := n) (by omega) with w | w | ⟨i, hi, rfl⟩
  · refine ⟨-4, fun post h => ?_, fun post h => ?_⟩
    · unfold wpX_caseAt
      exact cs_xP1 hp hP (br_f (by decide) (br_f w0 (br_t w2 (br_t w h))))
    · unfold wpY_caseAt
      exact cs_yP0 hp hP (br_t rfl (br_f w0 (br_t w2 (br_t w h))))
  · have v0 : ¬ x2 < 0 := Int32.not_lt.mpr (Int32.le_trans (cs_pos' (by omega)) w)
    have v1 : ¬ x2 < nI n := Int32.not_lt.mpr w
    refine ⟨-4, fun post h => ?_, fun post h => ?_⟩
    · unfold wpX_caseAt
      dsimp only
      rw [cs_cl (show p < 64 by omega), en]
      exact cs_xP1 hp hP (br_f (by decide) (br_f w0 (br_t w2 (br_f v0 ⟨cs_in8 hp8, br_f v1 h⟩))))
    · unfold wpY_caseAt
      dsimp only
      rw [cs_cl (show p < 64 by omega), en]
      exact cs_yP0 hp hP (br_t rfl (br_f w0 (br_t w2 (br_f v0 ⟨cs_in8 hp8, br_f v1 h⟩))))
  · have hj : 4 * p + i < 32 := by omega
    have kX : ∀ post : Int32 → Prop, (((x3 = 0 → (vp_in (nI (4 * p + i)) 32 ∧ (post (kd (4 * p + i))))) ∧ (¬ x3 = 0 → (((x3 = 1 → (vp_in (nI (4 * p + i)) 32 ∧ (post (ch (4 * p + i))))) ∧ (¬ x3 = 1 → (vp_in (nI (4 * p + i)) 32 ∧ (post (vl (4 * p + i)))))))))) → wpX_caseAt post (nI P, nI C, nI L, st, o1, f1, r1, d1, rm, fs, cn, kd, ch, vl, cp, ow, cl, se, re, hd, ln, b1, li) (nI p) (nI i) x3 := by
      intro post h
      unfold wpX_caseAt
      dsimp only
      rw [cs_cl (show p < 64 by omega), en, cs_m4]
      refine cs_xP1 hp hP (br_f (by decide) (br_f w0 (br_t w2 (br_f (cs_pos (by omega)) ⟨cs_in8 hp8, br_t (nI_lt hi (by omega)) (nm_e ?_)⟩))))
      rw [cs_cl (show 4 * p + i < 64 by omega)]
      exact h
    have kY : ∀ post : Int32 → Prop, (((x3 = 0 → (vp_in (nI (4 * p + i)) 32 ∧ (post (kd (4 * p + i))))) ∧ (¬ x3 = 0 → (((x3 = 1 → (vp_in (nI (4 * p + i)) 32 ∧ (post (ch (4 * p + i))))) ∧ (¬ x3 = 1 → (vp_in (nI (4 * p + i)) 32 ∧ (post (vl (4 * p + i)))))))))) → wpY_caseAt post (nI P, nI C, ub, nI Z, nI L, st, o2, f2, fs, r2, d2, rm, cn, kd, ch, vl, ow, ln, b2, se, re, cl, li) (nI p) (nI i) x3 := by
      intro post h
      unfold wpY_caseAt
      dsimp only
      rw [cs_cl (show p < 64 by omega), en, cs_m4, cs_cl (show 4 * p + i < 64 by omega)]
      exact cs_yP0 hp hP (br_t rfl (br_f w0 (br_t w2 (br_f (cs_pos (by omega)) ⟨cs_in8 hp8, br_t (nI_lt hi (by omega)) h⟩))))
    by_cases z : x3 = 0
    · exact ⟨kd (4 * p + i), fun post h => kX post (br_t z ⟨cs_in32 hj, h⟩), fun post h => kY post (br_t z ⟨cs_in32 hj, h⟩)⟩
    · by_cases y : x3 = 1
      · exact ⟨ch (4 * p + i), fun post h => kX post (br_f z (br_t y ⟨cs_in32 hj, h⟩)), fun post h => kY post (br_f z (br_t y ⟨cs_in32 hj, h⟩))⟩
      · exact ⟨vl (4 * p + i), fun post h => kX post (br_f z (br_f y ⟨cs_in32 hj, h⟩)), fun post h => kY post (br_f z (br_f y ⟨cs_in32 hj, h⟩))⟩
/-! the constructors -/
def cs_o : Nat → Int32 := fun j => if j < 8 then -4 else 0
theorem cs_o_s {a : Nat → Int32} {k : Nat} (h : ∀ j, a j = if j < k then -4 else 0) : ∀ j, upd a k (-4) j = if j < k + 1 then -4 else 0 := by
  intro j
  by_cases z : j = k
  · subst z; rw [pk_us, if_pos (by omega)]
  · rw [pk_un z, h j]
    by_cases y : j < k
    · rw [if_pos y, if_pos (by omega)]
    · rw [if_neg y, if_neg (by omega)]
theorem cs_o_e {a : Nat → Int32} (h : ∀ j, a j = if j < 8 then -4 else 0) : a = cs_o := funext h
section
variable {P C L Z : Nat} {ub : Int32} {st o1 f1 r1 d1 rm fs cn kd ch vl cp ow cl se re hd ln b1 li o2 f2 r2 d2 b2 : Nat → Int32}
theorem cs_xi2 {post : SX → Prop} (H : ∀ o1 f1 r1 d1 : Nat → Int32, (∀ p, p < 8 → o1 p = 0 ∧ f1 p = -4 ∧ r1 p = 0 ∧ d1 p = 0) → post (nI P, nI C, nI 0, st, o1, f1, r1, d1, rm, fs, cn, kd, ch, vl, cp, ow, cl, se, re, hd, ln, b1, li)) :
    ∀ (d k : Nat) (o1 f1 r1 d1 : Nat → Int32), k + d = 8 → (∀ p, p < k → o1 p = 0 ∧ f1 p = -4 ∧ r1 p = 0 ∧ d1 p = 0) → wX_init_257 post (d + 1) (nI k) (nI P) (nI C) (nI 0) st o1 f1 r1 d1 rm fs cn kd ch vl cp ow cl se re hd ln b1 li := by
  intro d
  induction d with
  | zero =>
    intro k o1 f1 r1 d1 hk h
    have e : k = 8 := by omega
    subst e
    exact br_t (by decide) (H o1 f1 r1 d1 h)
  | succ d ih =>
    intro k o1 f1 r1 d1 hk h
    refine br_f (nI_ge (b := 8) (by omega) (by decide)) (cs_xclr (L := 0) (by omega) (nm_r (nI_1 k) ?_))
    refine ih (k + 1) _ _ _ _ (by omega) (fun p hp => ?_)
    by_cases z : p = k
    · subst z
      exact ⟨pk_us, pk_us, pk_us, pk_us⟩
    · rw [pk_un z, pk_un z, pk_un z, pk_un z]
      exact h p (by omega)
theorem cs_xi1 {post : SX → Prop} (H : ∀ cp : Nat → Int32, (∀ c, c < 8 → (ub ≤ nI c → cp c = nI Z) ∧ (¬ ub ≤ nI c → cp c = 0)) → ∃ n, wX_init_257 post n 0 (nI P) (nI C) (nI 0) st o1 f1 r1 d1 rm fs cn kd ch vl cp cs_o cl se re hd ln b1 li) :
    ∀ (d k : Nat) (cp ow : Nat → Int32), k + d = 8 → (∀ c, c < k → (ub ≤ nI c → cp c = nI Z) ∧ (¬ ub ≤ nI c → cp c = 0)) → (∀ j, ow j = if j < k then -4 else 0) →
    wX_init_212 post ub (nI Z) (nI P) (nI C) (nI 0) (d + 1) (nI k) st o1 f1 r1 d1 rm fs cn kd ch vl cp ow cl se re hd ln b1 li := by
  intro d
  induction d with
  | zero =>
    intro k cp ow hk h ho
    have e : k = 8 := by omega
    subst e
    refine br_t (by decide) ?_
    rw [cs_o_e ho]
    exact H cp h
  | succ d ih =>
    intro k cp ow hk h ho
    refine br_f (nI_ge (b := 8) (by omega) (by decide)) ⟨cs_in8 (by omega), ?_⟩
    rw [cs_cl (show k < 64 by omega)]
    refine nm_e (br_c (fun z => ⟨cs_in8 (by omega), nm_e (nm_r (nI_1 k) (ih (k + 1) _ _ (by omega) (fun c hc => ?_) (cs_o_s ho)))⟩) (fun z => ⟨cs_in8 (by omega), nm_e (nm_r (nI_1 k) (ih (k + 1) _ _ (by omega) (fun c hc => ?_) (cs_o_s ho)))⟩))
    · by_cases y : c = k
      · subst y; exact ⟨fun _ => pk_us, fun w => absurd z w⟩
      · rw [pk_un y]; exact h c (by omega)
    · by_cases y : c = k
      · subst y; exact ⟨fun w => absurd w z, fun _ => pk_us⟩
      · rw [pk_un y]; exact h c (by omega)
theorem cs_yi {post : SY → Prop} (H : post (nI P, nI C, ub, nI Z, nI 0, st, o2, f2, fs, r2, d2, rm, cn, kd, ch, vl, cs_o, ln, b2, se, re, cl, li)) :
    ∀ (d k : Nat) (ow : Nat → Int32), k + d = 8 → (∀ j, ow j = if j < k then -4 else 0) → wY_init_200 post (nI P) (nI C) ub (nI Z) (nI 0) (d + 1) (nI k) st o2 f2 fs r2 d2 rm cn kd ch vl ow ln b2 se re cl li := by
  intro d
  induction d with
  | zero =>
    intro k ow hk ho
    have e : k = 8 := by omega
    subst e
    refine br_t (by decide) ?_
    rw [cs_o_e ho]
    exact H
  | succ d ih =>
    intro k ow hk ho
    refine br_f (nI_ge (b := 8) (by omega) (by decide)) ⟨cs_in8 (by omega), ?_⟩
    rw [cs_cl (show k < 64 by omega)]
    exact nm_e (nm_r (nI_1 k) (ih (k + 1) _ (by omega) (cs_o_s ho)))
end
theorem cs_init (k0 k1 k2 k3 : Int32) : wpX_init (fun u => wpY_init (fun v => cs_Rel u v) k0 k1 k2 k3) k0 k1 k2 k3 := by
  obtain ⟨P, hP2, hP8, eP'⟩ := cs_cv_in k0 (lo := 2) (hi := 8) (by omega) (by omega)
  obtain ⟨C, hC1, hC8, eC'⟩ := cs_cv_in k1 (lo := 1) (hi := 8) (by omega) (by omega)
  obtain ⟨Z, hZ1, hZ8, eZ'⟩ := cs_cv_in k3 (lo := 1) (hi := 8) (by omega) (by omega)
  have eP : cs_cv k0 2 8 = nI P := eP'
  have eC : cs_cv k1 1 8 = nI C := eC'
  have eZ : cs_cv k3 1 8 = nI Z := eZ'
  have F : ∀ (cp o1 f1 r1 d1 : Nat → Int32), (∀ c, c < 8 → (cs_cv k2 0 8 ≤ nI c → cp c = nI Z) ∧ (¬ cs_cv k2 0 8 ≤ nI c → cp c = 0)) → (∀ p, p < 8 → o1 p = 0 ∧ f1 p = -4 ∧ r1 p = 0 ∧ d1 p = 0) →
      cs_Rel (nI P, nI C, nI 0, (fun _ => 0), o1, f1, r1, d1, (fun _ => 0), (fun _ => 0), (fun _ => 0), (fun _ => 0), (fun _ => 0), (fun _ => 0), cp, cs_o, (fun _ => 0), (fun _ => 0), (fun _ => 0), (fun _ => 0), (fun _ => 0), (fun _ => 0), (fun _ => 0)) (nI P, nI C, cs_cv k2 0 8, nI Z, nI 0, (fun _ => 0), (fun _ => 0), (fun _ => 0), (fun _ => 0), (fun _ => 0), (fun _ => 0), (fun _ => 0), (fun _ => 0), (fun _ => 0), (fun _ => 0), (fun _ => 0), cs_o, (fun _ => 0), (fun _ => 0), (fun _ => 0), (fun _ => 0), (fun _ => 0), (fun _ => 0)) := by
    intro cp o1 f1 r1 d1 hcp h
    refine cs_mk (L := 0) ⟨hP2, hP8, hC1, hC8, by omega, fun p => ⟨0, by omega, rfl⟩, fun j => Or.inl rfl, fun j => ⟨0, by omega, rfl⟩, fun p hp => absurd hp (show ¬ (0 : Int32) = 1 by decide), fun k hk => absurd hk (by omega), fun j k _ hk => absurd hk (by omega)⟩
      ⟨hZ8, hcp, fun c hc => ⟨0, 0, by omega, by omega, rfl, rfl, fun k hk => absurd hk (by omega)⟩⟩ (fun p hp => ⟨fun e => absurd e (show ¬ (0 : Int32) = 3 by decide), fun _ => h p hp⟩)
  unfold wpX_init
  refine cs_xclamp ?_
  rw [eP]
  refine cs_xclamp ?_
  rw [eC]
  refine cs_xclamp (cs_xclamp ?_)
  rw [eZ]
  refine ⟨8 + 1, cs_xi1 (fun cp hcp => ⟨8 + 1, cs_xi2 (fun o1 f1 r1 d1 h => ?_) 8 0 (fun _ => 0) (fun _ => 0) (fun _ => 0) (fun _ => 0) (by omega) (fun p hp => absurd hp (by omega))⟩) 8 0 (fun _ => 0) (fun _ => 0) (by omega) (fun c hc => absurd hc (by omega)) (fun j => by rw [if_neg (by omega)])⟩
  unfold wpY_init
  refine cs_yclamp ?_
  rw [eP]
  refine cs_yclamp ?_
  rw [eC]
  refine cs_yclamp (cs_yclamp ?_)
  rw [eZ]
  exact ⟨8 + 1, cs_yi (F cp o1 f1 r1 d1 hcp h) 8 0 (fun _ => 0) (by omega) (fun j => by rw [if_neg (by omega)])⟩
end
section
/-- the relation at the head of a turn: near equality, the ring against the shifted buffer, the results of those that are done -/
def i_Rel (k : Nat) (u : SX) (v : SY) : Prop := cs_Rel u v
theorem i_up {k : Nat} {u : SX} {v : SY} (h : i_Rel k u v) : i_Rel (k + 5) u v := h
theorem i_vc0 (k0 : Int32) (k1 : Int32) (k2 : Int32) (k3 : Int32) : wpX_init (fun u => wpY_init (fun v => i_Rel 4 u v) k0 k1 k2 k3) k0 k1 k2 k3 := cs_init k0 k1 k2 k3
theorem i_vc_add {k : Nat} {u : SX} {v : SY} (I : i_Rel k u v) (hk : k + 5 ≤ 2564) (v1 : Int32) (v2 : Int32) (v3 : Int32) (v4 : Int32) : wpX_add (fun r u' => wpY_add (fun r' v' => r' = r ∧ i_Rel (k + 5) u' v') v v1 v2 v3 v4) u v1 v2 v3 v4 := by
  obtain ⟨r, u', v', hR, hX, hY⟩ := cs_L_add v1 v2 v3 v4 I
  exact hX _ (hY _ ⟨rfl, hR⟩)
theorem i_vc_start {k : Nat} {u : SX} {v : SY} (I : i_Rel k u v) (hk : k + 5 ≤ 2564) (v1 : Int32) (v2 : Int32) (v3 : Int32) : wpX_start (fun r u' => wpY_start (fun r' v' => r' = r ∧ i_Rel (k + 5) u' v') v v1 v2 v3) u v1 v2 v3 := by
  obtain ⟨r, u', v', hR, hX, hY⟩ := cs_L_start v1 v2 v3 I
  exact hX _ (hY _ ⟨rfl, hR⟩)
theorem i_vc_step {k : Nat} {u : SX} {v : SY} (I : i_Rel k u v) (hk : k + 5 ≤ 2564) (v1 : Int32) : wpX_step (fun r u' => wpY_step (fun r' v' => r' = r ∧ i_Rel (k + 5) u' v') v v1) u v1 := by
  obtain ⟨r, u', v', hR, hX, hY⟩ := cs_L_step v1 I
  exact hX _ (hY _ ⟨rfl, hR⟩)
theorem i_vc_close {k : Nat} {u : SX} {v : SY} (I : i_Rel k u v) (hk : k + 5 ≤ 2564) (v1 : Int32) : wpX_close (fun r u' => wpY_close (fun r' v' => r' = r ∧ i_Rel (k + 5) u' v') v v1) u v1 := by
  obtain ⟨r, u', v', hR, hX, hY⟩ := cs_L_close v1 I
  exact hX _ (hY _ ⟨rfl, hR⟩)
theorem i_vc_tick {k : Nat} {u : SX} {v : SY} (I : i_Rel k u v) (hk : k + 5 ≤ 2564) (v1 : Int32) : wpX_tick (fun r u' => wpY_tick (fun r' v' => r' = r ∧ i_Rel (k + 5) u' v') v v1) u v1 := by
  obtain ⟨r, u', v', hR, hX, hY⟩ := cs_L_tick v1 I
  exact hX _ (hY _ ⟨rfl, hR⟩)
theorem i_vc_reset {k : Nat} {u : SX} {v : SY} (I : i_Rel k u v) (hk : k + 5 ≤ 2564) (v1 : Int32) : wpX_reset (fun r u' => wpY_reset (fun r' v' => r' = r ∧ i_Rel (k + 5) u' v') v v1) u v1 := by
  obtain ⟨r, u', v', hR, hX, hY⟩ := cs_L_reset v1 I
  exact hX _ (hY _ ⟨rfl, hR⟩)
theorem i_vc_process {k : Nat} {u : SX} {v : SY} (I : i_Rel k u v) (hk : k + 5 ≤ 2564) (v1 : Int32) (v2 : Int32) : wpX_process (fun r => wpY_process (fun r' => r' = r ∧ i_Rel (k + 5) u v) v v1 v2) u v1 v2 := by
  obtain ⟨r, hX, hY⟩ := cs_Q_process v1 v2 I
  exact hX _ (hY _ ⟨rfl, I⟩)
theorem i_vc_channel {k : Nat} {u : SX} {v : SY} (I : i_Rel k u v) (hk : k + 5 ≤ 2564) (v1 : Int32) (v2 : Int32) : wpX_channel (fun r => wpY_channel (fun r' => r' = r ∧ i_Rel (k + 5) u v) v v1 v2) u v1 v2 := by
  obtain ⟨r, hX, hY⟩ := cs_Q_channel v1 v2 I
  exact hX _ (hY _ ⟨rfl, I⟩)
theorem i_vc_peek {k : Nat} {u : SX} {v : SY} (I : i_Rel k u v) (hk : k + 5 ≤ 2564) (v1 : Int32) (v2 : Int32) : wpX_peek (fun r => wpY_peek (fun r' => r' = r ∧ i_Rel (k + 5) u v) v v1 v2) u v1 v2 := by
  obtain ⟨r, hX, hY⟩ := cs_Q_peek v1 v2 I
  exact hX _ (hY _ ⟨rfl, I⟩)
theorem i_vc_waiter {k : Nat} {u : SX} {v : SY} (I : i_Rel k u v) (hk : k + 5 ≤ 2564) (v1 : Int32) (v2 : Int32) (v3 : Int32) : wpX_waiter (fun r => wpY_waiter (fun r' => r' = r ∧ i_Rel (k + 5) u v) v v1 v2 v3) u v1 v2 v3 := by
  obtain ⟨r, hX, hY⟩ := cs_Q_waiter v1 v2 v3 I
  exact hX _ (hY _ ⟨rfl, I⟩)
theorem i_vc_caseAt {k : Nat} {u : SX} {v : SY} (I : i_Rel k u v) (hk : k + 5 ≤ 2564) (v1 : Int32) (v2 : Int32) (v3 : Int32) : wpX_caseAt (fun r => wpY_caseAt (fun r' => r' = r ∧ i_Rel (k + 5) u v) v v1 v2 v3) u v1 v2 v3 := by
  obtain ⟨r, hX, hY⟩ := cs_Q_caseAt v1 v2 v3 I
  exact hX _ (hY _ ⟨rfl, I⟩)
end
