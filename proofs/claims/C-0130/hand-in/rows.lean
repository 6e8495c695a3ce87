section
/-! rows taken from the kit's rows to paste -/
theorem pk_us {f : Nat → Int32} {k : Nat} {x : Int32} : upd f k x k = x := if_pos rfl
theorem pk_un {f : Nat → Int32} {k j : Nat} {x : Int32} (h : j ≠ k) : upd f k x j = f j := if_neg h
theorem pk_sub {a b : Nat} (h : b ≤ a) : nI a - nI b = nI (a - b) := by
  obtain ⟨c, rfl⟩ : ∃ c, a = c + b := ⟨a - b, by omega⟩
  rw [← nI_add, Int32.add_sub_cancel, Nat.add_sub_cancel]
theorem pk_m1 (n : Nat) : nI (n + 1) + (-1) = nI n := by
  rw [← nI_1, Int32.add_assoc, show (1 : Int32) + (-1) = 0 from rfl, Int32.add_zero]
theorem pk_mul (a b : Nat) : nI a * nI b = nI (a * b) := (Int32.ofNat_mul a b).symm
theorem pk_div {a d : Nat} (ha : a < 2 ^ 31) (h0 : 0 < d) (hd : d < 2 ^ 31) : nI a / nI d = nI (a / d) := by
  apply Int32.toInt_inj.mp
  rw [lg_idiv_nonneg (by rw [nI_toInt ha]; omega) (by rw [nI_toInt hd]; omega), nI_toInt ha, nI_toInt hd, nI_toInt (Nat.lt_of_le_of_lt (Nat.div_le_self a d) ha)]
  first | rfl | exact (Int.natCast_ediv _ _).symm
theorem pk_rem {a d : Nat} (ha : a < 2 ^ 31) (h0 : 0 < d) (hd : d < 2 ^ 31) : nI a - nI a / nI d * nI d = nI (a % d) := by
  rw [pk_div ha h0 hd, pk_mul, pk_sub (Nat.div_mul_le_self a d)]
  exact congrArg nI (by have := Nat.div_add_mod' a d; omega)
theorem pk_ix (x : Int32) {n : Nat} (hn : n < 2 ^ 31) : x < 0 ∨ nI n ≤ x ∨ ∃ j : Nat, j < n ∧ x = nI j := by
  by_cases h : x < 0
  · exact Or.inl h
  · obtain ⟨j, hj, rfl⟩ := nI_of h
    by_cases h2 : j < n
    · exact Or.inr (Or.inr ⟨j, h2, rfl⟩)
    · exact Or.inr (Or.inl (nI_le (by omega) hj))
theorem pk_le {x y : Int32} {A B : Prop} (a b : Nat) (f : a ≤ b → A) (g : b < a → B) (hx : x = nI a := by rfl) (hy : y = nI b := by rfl) (ha : a < 2 ^ 31 := by omega) (hb : b < 2 ^ 31 := by omega) : (x ≤ y → A) ∧ (¬ x ≤ y → B) := by
  subst hx hy
  rw [nI_leI ha hb]
  exact ⟨f, fun z => g (by omega)⟩
theorem pk_lt {x y : Int32} {A B : Prop} (a b : Nat) (f : a < b → A) (g : b ≤ a → B) (hx : x = nI a := by rfl) (hy : y = nI b := by rfl) (ha : a < 2 ^ 31 := by omega) (hb : b < 2 ^ 31 := by omega) : (x < y → A) ∧ (¬ x < y → B) := by
  subst hx hy
  rw [nI_ltI ha hb]
  exact ⟨f, fun z => g (by omega)⟩
theorem pk_eq {x y : Int32} {A B : Prop} (a b : Nat) (f : a = b → A) (g : a ≠ b → B) (hx : x = nI a := by rfl) (hy : y = nI b := by rfl) (ha : a < 2 ^ 31 := by omega) (hb : b < 2 ^ 31 := by omega) : (x = y → A) ∧ (¬ x = y → B) := by
  subst hx hy
  rw [nI_eq ha hb]
  exact ⟨f, g⟩
theorem pk_in {x : Int32} (n N : Nat) (h : n < N) (hx : x = nI n := by rfl) (hN : N < 2 ^ 31 := by omega) : vp_in x N := by
  subst hx
  exact vp_in_nI h hN
theorem pk_cl {x : Int32} (n : Nat) (hx : x = nI n := by rfl) (h : n < 2 ^ 31 := by omega) : x.toNatClampNeg = n := by
  subst hx
  exact nI_clamp h
theorem pk_least (P : Nat → Prop) (h : ∃ k, P k) : ∃ k, P k ∧ ∀ j, j < k → ¬ P j := by
  obtain ⟨k, hk⟩ := h
  induction k using Nat.strongRecOn with
  | ind k ih =>
    by_cases e : ∃ j, j < k ∧ P j
    · obtain ⟨j, hj, pj⟩ := e
      exact ih j hj pj
    · exact ⟨k, hk, fun j hj pj => e ⟨j, hj, pj⟩⟩
def bt (x : Int32) (i : Nat) : Bool := x.toBitVec.getLsbD i
theorem b_ext {x y : Int32} (h : ∀ i, i < 32 → bt x i = bt y i) : x = y := Int32.toBitVec_inj.mp (BitVec.eq_of_getLsbD_eq (fun i hi => h i hi))
theorem b_or (x y : Int32) (i : Nat) : bt (x ||| y) i = (bt x i || bt y i) := by unfold bt; rw [Int32.toBitVec_or, BitVec.getLsbD_or]
theorem b_and (x y : Int32) (i : Nat) : bt (x &&& y) i = (bt x i && bt y i) := by unfold bt; rw [Int32.toBitVec_and, BitVec.getLsbD_and]
theorem b_xor (x y : Int32) (i : Nat) : bt (x ^^^ y) i = (bt x i ^^ bt y i) := by unfold bt; rw [Int32.toBitVec_xor, BitVec.getLsbD_xor]
theorem b_big {x : Int32} {i : Nat} (h : 32 ≤ i) : bt x i = false := BitVec.getLsbD_of_ge _ _ h
theorem b_m1 : ∀ i, i < 32 → bt (-1) i = true := by decide +kernel
theorem b_0 (i : Nat) : bt 0 i = false := BitVec.getLsbD_zero
theorem s_l : ∀ n, n < 32 → ((nI n &&& 31).toBitVec.smod 32).toNat = n := by decide +kernel
theorem b_shl (n : Nat) (hn : n < 32) (x : Int32) {i : Nat} (hi : i < 32) : bt (x <<< (nI n &&& 31)) i = (decide (n ≤ i) && bt x (i - n)) := by
  unfold bt
  rw [Int32.toBitVec_shiftLeft]
  show (x.toBitVec <<< ((nI n &&& 31).toBitVec.smod 32).toNat).getLsbD i = _
  rw [s_l n hn, BitVec.getLsbD_shiftLeft]
  rcases Nat.lt_or_ge i n with h | h
  · simp [h, Nat.not_le.mpr h]
  · simp [hi, h, Nat.not_lt.mpr h]
theorem b_sshr (n : Nat) (hn : n < 32) (x : Int32) {i : Nat} (hi : i < 32) : bt (x >>> (nI n &&& 31)) i = if n + i < 32 then bt x (n + i) else bt x 31 := by
  unfold bt
  rw [Int32.toBitVec_shiftRight]
  show (x.toBitVec.sshiftRight ((nI n &&& 31).toBitVec.smod 32).toNat).getLsbD i = _
  rw [s_l n hn, BitVec.getLsbD_sshiftRight, BitVec.msb_eq_getLsbD_last]
  simp [hi]
end
section
/-! pure rows: the path to the root, the counts, the sets of rights, what is allowed -/
theorem ac_pig : ∀ (n m : Nat) (f : Nat → Nat), (∀ i, i < m → f i < n) → (∀ i j, i < j → j < m → f i ≠ f j) → m ≤ n := by
  intro n
  induction n with
  | zero =>
    intro m f h _
    rcases Nat.eq_zero_or_pos m with e | e
    · omega
    · exact absurd (h 0 e) (by omega)
  | succ n ih =>
    intro m f h inj
    rcases Nat.eq_zero_or_pos m with e | e
    · omega
    · have key : m - 1 ≤ n := by
        apply ih (m - 1) (fun i => if f i = n then f (m - 1) else f i)
        · intro i hi
          have h1 := h i (by omega)
          have h2 := h (m - 1) (by omega)
          have h3 := inj i (m - 1) hi (by omega)
          show (if f i = n then f (m - 1) else f i) < n
          by_cases q : f i = n
          · rw [if_pos q]; omega
          · rw [if_neg q]; omega
        · intro i j hij hj
          have h1 := inj i j hij (by omega)
          have h2 := inj i (m - 1) (by omega) (by omega)
          have h3 := inj j (m - 1) (by omega) (by omega)
          show (if f i = n then f (m - 1) else f i) ≠ (if f j = n then f (m - 1) else f j)
          by_cases q : f i = n
          · rw [if_pos q, if_neg (by omega)]; omega
          · rw [if_neg q]
            by_cases q2 : f j = n
            · rw [if_pos q2]; omega
            · rw [if_neg q2]; exact h1
      omega
def ac_up (p : Nat → Nat) : Nat → Nat → Nat
  | 0, k => k
  | n + 1, k => ac_up p n (p k)
theorem ac_up_add (p : Nat → Nat) : ∀ a b k, ac_up p (a + b) k = ac_up p b (ac_up p a k) := by
  intro a
  induction a with
  | zero => intro b k; rw [Nat.zero_add]; rfl
  | succ a ih => intro b k; rw [show a + 1 + b = (a + b) + 1 by omega]; exact ih b (p k)
theorem ac_up_s (p : Nat → Nat) (a k : Nat) : ac_up p (a + 1) k = p (ac_up p a k) := by
  rw [ac_up_add]; rfl
theorem ac_up_zero {p : Nat → Nat} (h0 : p 0 = 0) : ∀ n, ac_up p n 0 = 0 := by
  intro n
  induction n with
  | zero => rfl
  | succ n ih => show ac_up p n (p 0) = 0; rw [h0]; exact ih
theorem ac_up_lt {p : Nat → Nat} (hp : ∀ k, p k < 16) : ∀ n k, k < 16 → ac_up p n k < 16 := by
  intro n
  induction n with
  | zero => intro k hk; exact hk
  | succ n ih => intro k _; exact ih _ (hp k)
theorem ac_up_ge {p : Nat → Nat} (h0 : p 0 = 0) {m k : Nat} (h : ac_up p m k = 0) {n : Nat} (hn : m ≤ n) : ac_up p n k = 0 := by
  obtain ⟨d, rfl⟩ : ∃ d, n = m + d := ⟨n - m, by omega⟩
  rw [ac_up_add, h, ac_up_zero h0]
theorem ac_up15 {p : Nat → Nat} (hp : ∀ k, p k < 16) (h0 : p 0 = 0) {k : Nat} (hk : k < 16) (h : ∃ n, ac_up p n k = 0) : ac_up p 15 k = 0 := by
  obtain ⟨n, hn, hl⟩ := pk_least _ h
  have hb : n + 1 ≤ 16 := by
    apply ac_pig 16 (n + 1) (fun i => ac_up p i k)
    · intro i _
      exact ac_up_lt hp i k hk
    · intro i j hij hj e
      have e1 : ac_up p i k = ac_up p j k := e
      have e2 : ac_up p (i + (n - j)) k = ac_up p (j + (n - j)) k := by rw [ac_up_add, ac_up_add, e1]
      rw [show j + (n - j) = n by omega, hn] at e2
      exact hl _ (by omega) e2
  exact ac_up_ge h0 hn (by omega)
/-! counting -/
def ac_cn (f : Nat → Bool) : Nat → Nat
  | 0 => 0
  | n + 1 => ac_cn f n + (if f n = true then 1 else 0)
theorem ac_cn_le (f : Nat → Bool) : ∀ n, ac_cn f n ≤ n := by
  intro n
  induction n with
  | zero => exact Nat.le_refl _
  | succ n ih =>
    show ac_cn f n + (if f n = true then 1 else 0) ≤ n + 1
    by_cases h : f n = true
    · rw [if_pos h]; omega
    · rw [if_neg h]; omega
theorem ac_cn_t {f : Nat → Bool} {n : Nat} (h : f n = true) : ac_cn f (n + 1) = ac_cn f n + 1 := by
  show ac_cn f n + (if f n = true then 1 else 0) = _
  rw [if_pos h]
theorem ac_cn_f {f : Nat → Bool} {n : Nat} (h : f n = false) : ac_cn f (n + 1) = ac_cn f n := by
  show ac_cn f n + (if f n = true then 1 else 0) = _
  rw [if_neg (by rw [h]; decide)]; rfl
theorem ac_cn_congr {f g : Nat → Bool} : ∀ n, (∀ i, i < n → f i = g i) → ac_cn f n = ac_cn g n := by
  intro n
  induction n with
  | zero => intro _; rfl
  | succ n ih =>
    intro h
    show ac_cn f n + (if f n = true then 1 else 0) = ac_cn g n + (if g n = true then 1 else 0)
    rw [ih (fun i hi => h i (by omega)), h n (by omega)]
theorem ac_cn_zero : ∀ n, ac_cn (fun _ => false) n = 0 := by
  intro n
  induction n with
  | zero => rfl
  | succ n ih => rw [ac_cn_f (by rfl), ih]
theorem ac_cn_add (f : Nat → Bool) (a : Nat) : ∀ b, ac_cn f (a + b) = ac_cn f a + ac_cn (fun i => f (a + i)) b := by
  intro b
  induction b with
  | zero => rfl
  | succ b ih =>
    show ac_cn f (a + b) + (if f (a + b) = true then 1 else 0) = ac_cn f a + (ac_cn (fun i => f (a + i)) b + (if f (a + b) = true then 1 else 0))
    rw [ih]; omega
theorem ac_cn_ins {f g : Nat → Bool} {j : Nat} (hf : f j = false) (hg : g j = true) (ho : ∀ i, i ≠ j → g i = f i) : ∀ n, j < n → ac_cn g n = ac_cn f n + 1 := by
  intro n
  induction n with
  | zero => intro h; omega
  | succ n ih =>
    intro h
    by_cases e : j = n
    · subst e
      rw [ac_cn_t hg, ac_cn_f hf, ac_cn_congr j (fun i hi => ho i (by omega))]
    · show ac_cn g n + (if g n = true then 1 else 0) = ac_cn f n + (if f n = true then 1 else 0) + 1
      rw [ih (by omega), ho n (by omega)]; omega
/-! sets of rights -/
def ac_b (b : Bool) : Int32 := match b with
  | true => 1
  | false => 0
def ac_m4 (a b c d : Bool) : Int32 := ac_b a ||| (ac_b b <<< 1) ||| (ac_b c <<< 2) ||| (ac_b d <<< 3)
def ac_mk (f : Nat → Bool) : Int32 := ac_m4 (f 0) (f 1) (f 2) (f 3)
theorem ac_m4_or : ∀ a b c d e f g h : Bool, ac_m4 a b c d ||| ac_m4 e f g h = ac_m4 (a || e) (b || f) (c || g) (d || h) := by decide +kernel
theorem ac_m4_an : ∀ a b c d e f g h : Bool, ac_m4 a b c d &&& (ac_m4 e f g h ^^^ (-1)) = ac_m4 (a && !e) (b && !f) (c && !g) (d && !h) := by decide +kernel
theorem ac_m4_bt : ∀ a b c d : Bool, bt (ac_m4 a b c d) 0 = a ∧ bt (ac_m4 a b c d) 1 = b ∧ bt (ac_m4 a b c d) 2 = c ∧ bt (ac_m4 a b c d) 3 = d := by decide +kernel
theorem ac_m4_nn : ∀ a b c d : Bool, ¬ ac_m4 a b c d < 0 := by decide +kernel
theorem ac_m4_nat : ∀ j, j < 16 → nI j = ac_m4 (j.testBit 0) (j.testBit 1) (j.testBit 2) (j.testBit 3) := by decide +kernel
theorem ac_mk_or (f g : Nat → Bool) : ac_mk f ||| ac_mk g = ac_mk (fun r => f r || g r) := ac_m4_or _ _ _ _ _ _ _ _
theorem ac_mk_an (f g : Nat → Bool) : ac_mk f &&& (ac_mk g ^^^ (-1)) = ac_mk (fun r => f r && !(g r)) := ac_m4_an _ _ _ _ _ _ _ _
theorem ac_mk_nn (f : Nat → Bool) : ¬ ac_mk f < 0 := ac_m4_nn _ _ _ _
theorem ac_mk_nat {j : Nat} (h : j < 16) : nI j = ac_mk (fun r => j.testBit r) := ac_m4_nat j h
theorem ac_mk_0 : (0 : Int32) = ac_mk (fun _ => false) := by decide +kernel
theorem ac_mk_bt (f : Nat → Bool) {r : Nat} (hr : r < 4) : bt (ac_mk f) r = f r := by
  have h := ac_m4_bt (f 0) (f 1) (f 2) (f 3)
  match r, hr with
  | 0, _ => exact h.1
  | 1, _ => exact h.2.1
  | 2, _ => exact h.2.2.1
  | 3, _ => exact h.2.2.2
theorem ac_bt1 : ∀ i, i < 32 → bt 1 i = decide (i = 0) := by decide +kernel
theorem ac_bit (x : Int32) {k : Nat} (hk : k < 32) : ((x >>> (nI k &&& 31)) &&& 1) = 1 ↔ bt x k = true := by
  have h0 : bt (x >>> (nI k &&& 31)) 0 = bt x k := by
    rw [b_sshr k hk x (by decide), Nat.add_zero, if_pos hk]
  constructor
  · intro h
    have h1 : bt ((x >>> (nI k &&& 31)) &&& 1) 0 = true := by rw [h]; decide +kernel
    rw [b_and, h0] at h1
    exact (Bool.and_eq_true _ _ ▸ h1).1
  · intro h
    apply b_ext
    intro i hi
    rw [b_and, ac_bt1 i hi]
    by_cases e : i = 0
    · subst e; rw [h0, h]; rfl
    · rw [decide_eq_false e, Bool.and_false]
theorem ac_bit0 (x : Int32) {k : Nat} (hk : k < 32) : ((x >>> (nI k &&& 31)) &&& 1) = 0 ↔ bt x k = false := by
  have h0 : bt (x >>> (nI k &&& 31)) 0 = bt x k := by
    rw [b_sshr k hk x (by decide), Nat.add_zero, if_pos hk]
  constructor
  · intro h
    have h1 : bt ((x >>> (nI k &&& 31)) &&& 1) 0 = false := by rw [h]; decide +kernel
    rw [b_and, h0, ac_bt1 0 (by decide)] at h1
    rw [decide_eq_true rfl, Bool.and_true] at h1
    exact h1
  · intro h
    apply b_ext
    intro i hi
    rw [b_and, ac_bt1 i hi, b_0]
    by_cases e : i = 0
    · subst e; rw [h0, h]; rfl
    · rw [decide_eq_false e, Bool.and_false]
theorem ac_bt_one {j k : Nat} (hj : j < 32) (hk : k < 32) : bt ((1 : Int32) <<< (nI j &&& 31)) k = decide (k = j) := by
  rw [b_shl j hj 1 hk, ac_bt1 (k - j) (by omega)]
  by_cases e : k = j
  · subst e
    rw [decide_eq_true (Nat.le_refl _), decide_eq_true (Nat.sub_self _), decide_eq_true rfl]; rfl
  · rw [decide_eq_false e]
    by_cases l : j ≤ k
    · rw [decide_eq_false (show ¬ k - j = 0 by omega), Bool.and_false]
    · rw [decide_eq_false l, Bool.false_and]
theorem ac_bt_ins (x : Int32) {j k : Nat} (hj : j < 32) (hk : k < 32) : bt (x ||| ((1 : Int32) <<< (nI j &&& 31))) k = (bt x k || decide (k = j)) := by
  rw [b_or, ac_bt_one hj hk]
/-! a fold that gathers a set -/
def ac_fo (f : Nat → Bool) : Nat → Int32 → Nat → Int32
  | 0, z, _ => z
  | d + 1, z, i => ac_fo f d (match f i with | true => z ||| ((1 : Int32) <<< (nI i &&& 31)) | false => z) (i + 1)
theorem ac_fo_t {f : Nat → Bool} {d i : Nat} {z : Int32} (h : f i = true) : ac_fo f (d + 1) z i = ac_fo f d (z ||| ((1 : Int32) <<< (nI i &&& 31))) (i + 1) := by
  show ac_fo f d (match f i with | true => z ||| ((1 : Int32) <<< (nI i &&& 31)) | false => z) (i + 1) = _
  rw [h]
theorem ac_fo_f {f : Nat → Bool} {d i : Nat} {z : Int32} (h : f i = false) : ac_fo f (d + 1) z i = ac_fo f d z (i + 1) := by
  show ac_fo f d (match f i with | true => z ||| ((1 : Int32) <<< (nI i &&& 31)) | false => z) (i + 1) = _
  rw [h]
theorem ac_fo_congr {f g : Nat → Bool} : ∀ d z i, (∀ k, i ≤ k → k < i + d → f k = g k) → ac_fo f d z i = ac_fo g d z i := by
  intro d
  induction d with
  | zero => intro z i _; rfl
  | succ d ih =>
    intro z i h
    cases q : f i with
    | true => rw [ac_fo_t q, ac_fo_t ((h i (by omega) (by omega)).symm.trans q)]; exact ih _ _ (fun k h1 h2 => h k (by omega) (by omega))
    | false => rw [ac_fo_f q, ac_fo_f ((h i (by omega) (by omega)).symm.trans q)]; exact ih _ _ (fun k h1 h2 => h k (by omega) (by omega))
theorem ac_fo_m4 : ∀ a b c d : Bool, ac_fo (fun r => match r with | 0 => a | 1 => b | 2 => c | _ => d) 4 0 0 = ac_m4 a b c d := by decide +kernel
theorem ac_fo_mk (f : Nat → Bool) : ac_fo f 4 0 0 = ac_mk f := by
  have h := ac_fo_m4 (f 0) (f 1) (f 2) (f 3)
  show _ = ac_m4 (f 0) (f 1) (f 2) (f 3)
  rw [← h]
  apply ac_fo_congr
  intro k _ hk
  match k, hk with
  | 0, _ => rfl
  | 1, _ => rfl
  | 2, _ => rfl
  | 3, _ => rfl
end
section
/-! what is allowed, by fuel: as the reference walks (ac_y), and what is passed on (ac_p) -/
section
variable {e e' : Nat → Nat → Nat → Nat → Bool → Bool} {g g' : Nat → Bool} {p p' : Nat → Nat} {pp r : Nat}
def ac_y (e : Nat → Nat → Nat → Nat → Bool → Bool) (g : Nat → Bool) (p : Nat → Nat) (pp r : Nat) : Nat → Nat → Nat → Bool
  | 0, _, _ => false
  | n + 1, s, x => !(e pp x s r false) && (e pp x s r true || (g x && ac_y e g p pp r n (s + 1) (p x)))
def ac_p (e : Nat → Nat → Nat → Nat → Bool → Bool) (g : Nat → Bool) (p : Nat → Nat) (pp r : Nat) : Nat → Nat → Bool
  | 0, _ => false
  | n + 1, x => !(e pp x 2 r false) && (e pp x 2 r true || (g x && ac_p e g p pp r n (p x)))
theorem ac_y_s (n s x : Nat) : ac_y e g p pp r (n + 1) s x = (!(e pp x s r false) && (e pp x s r true || (g x && ac_y e g p pp r n (s + 1) (p x)))) := rfl
theorem ac_p_s (n x : Nat) : ac_p e g p pp r (n + 1) x = (!(e pp x 2 r false) && (e pp x 2 r true || (g x && ac_p e g p pp r n (p x)))) := rfl
theorem ac_yp (he : ∀ x s a, 2 ≤ s → e pp x s r a = e pp x 2 r a) : ∀ n s x, 2 ≤ s → ac_y e g p pp r n s x = ac_p e g p pp r n x := by
  intro n
  induction n with
  | zero => intro s x _; rfl
  | succ n ih =>
    intro s x hs
    rw [ac_y_s, ac_p_s, he x s false hs, he x s true hs, ih (s + 1) (p x) (by omega)]
theorem ac_p_st (hg : g 0 = false) : ∀ m x, ac_up p m x = 0 → ∀ n, m < n → ac_p e g p pp r n x = ac_p e g p pp r (m + 1) x := by
  intro m
  induction m with
  | zero =>
    intro x h n hn
    have hx : x = 0 := h
    subst hx
    obtain ⟨n', rfl⟩ : ∃ n', n = n' + 1 := ⟨n - 1, by omega⟩
    rw [ac_p_s, ac_p_s, hg, Bool.false_and, Bool.false_and]
  | succ m ih =>
    intro x h n hn
    obtain ⟨n', rfl⟩ : ∃ n', n = n' + 1 := ⟨n - 1, by omega⟩
    rw [ac_p_s, ac_p_s, ih (p x) h n' (by omega)]
theorem ac_p_rec (hg : g 0 = false) {x : Nat} (h : ac_up p 15 x = 0) : ac_p e g p pp r 16 x = (!(e pp x 2 r false) && (e pp x 2 r true || (g x && ac_p e g p pp r 16 (p x)))) := by
  rw [← ac_p_st hg 15 x h 17 (by omega), ac_p_s]
theorem ac_y_rec (hg : g 0 = false) (h0 : p 0 = 0) (he : ∀ x s a, 2 ≤ s → e pp x s r a = e pp x 2 r a) {x : Nat} (h : ac_up p 15 x = 0) :
    ac_y e g p pp r 17 0 x = (!(e pp x 0 r false) && (e pp x 0 r true || (g x && (!(e pp (p x) 1 r false) && (e pp (p x) 1 r true || (g (p x) && ac_p e g p pp r 16 (p (p x)))))))) := by
  have h13 : ac_up p 13 (p (p x)) = 0 := h
  rw [ac_y_s, ac_y_s, ac_yp he 15 (0 + 1 + 1) (p (p x)) (by omega), ac_p_st hg 13 _ h13 15 (by omega), ac_p_st hg 13 _ h13 16 (by omega)]
theorem ac_y_agree {N : Nat → Prop} (hN : ∀ x, N x → N (p x)) (ha : ∀ x, N x → p' x = p x ∧ g' x = g x ∧ ∀ s a, e' pp x s r a = e pp x s r a) :
    ∀ n s x, N x → ac_y e' g' p' pp r n s x = ac_y e g p pp r n s x := by
  intro n
  induction n with
  | zero => intro s x _; rfl
  | succ n ih =>
    intro s x hx
    obtain ⟨h1, h2, h3⟩ := ha x hx
    rw [ac_y_s, ac_y_s, h1, h2, h3, h3, ih (s + 1) (p x) (hN x hx)]
theorem ac_p_agree {N : Nat → Prop} (hN : ∀ x, N x → N (p x)) (ha : ∀ x, N x → p' x = p x ∧ g' x = g x ∧ ∀ s a, e' pp x s r a = e pp x s r a) :
    ∀ n x, N x → ac_p e' g' p' pp r n x = ac_p e g p pp r n x := by
  intro n
  induction n with
  | zero => intro x _; rfl
  | succ n ih =>
    intro x hx
    obtain ⟨h1, h2, h3⟩ := ha x hx
    rw [ac_p_s, ac_p_s, h1, h2, h3, h3, ih (p x) (hN x hx)]
end
/-! the entries -/
def ac_fit (f : Int32) (s : Nat) : Bool := match s with
  | 0 => decide (f &&& 2 = 0)
  | 1 => decide (f &&& 1 = 1)
  | _ + 2 => decide (f &&& 1 = 1) && decide (f &&& 4 = 0)
def ac_cov (gr : Nat → Int32) (w q : Int32) : Bool := if 6 ≤ w then decide (((gr (w - 6).toNatClampNeg >>> (q &&& 31)) &&& 1) = 1) else decide (w = q)
def ac_w (al wh fl gr : Nat → Int32) (k s pp : Nat) (a : Bool) : Bool := ac_fit (fl k) s && ac_cov gr (wh k) (nI pp) && (decide (al k = 0) == !a)
def ac_any (al wh : Nat → Int32) (t : Nat → Nat → Bool) (fl gr : Nat → Int32) (b s pp : Nat) (a : Bool) (r : Nat) : Nat → Bool
  | 0 => false
  | n + 1 => ac_any al wh t fl gr b s pp a r n || (ac_w al wh fl gr (b + n) s pp a && t (b + n) r)
def ac_e (c : Nat → Nat) (al wh : Nat → Int32) (t : Nat → Nat → Bool) (fl gr : Nat → Int32) (pp x s r : Nat) (a : Bool) : Bool := ac_any al wh t fl gr (x * 4) s pp a r (c x)
def ac_g (cl : Nat → Int32) (x : Nat) : Bool := decide (cl x = 0) && decide (x ≠ 0)
def ac_A (cl : Nat → Int32) (p c : Nat → Nat) (al wh : Nat → Int32) (t : Nat → Nat → Bool) (fl gr : Nat → Int32) (pp k : Nat) : Nat → Bool := fun r => ac_y (ac_e c al wh t fl gr) (ac_g cl) p pp r 17 0 k
def ac_P (cl : Nat → Int32) (p c : Nat → Nat) (al wh : Nat → Int32) (t : Nat → Nat → Bool) (fl gr : Nat → Int32) (pp k : Nat) : Nat → Bool := fun r => ac_p (ac_e c al wh t fl gr) (ac_g cl) p pp r 16 k
def ac_xp (p : Nat → Nat) : Nat → Int32 := fun j => if j = 0 then -1 else nI (p j)
def ac_nn (c : Nat → Nat) : Nat → Int32 := fun j => nI (c j)
def ac_mm (t : Nat → Nat → Bool) : Nat → Int32 := fun j => ac_mk (t j)
def ac_u {α : Type} (f : Nat → α) (k : Nat) (x : α) : Nat → α := fun j => if j = k then x else f j
/-- the tree and the ranges -/
def ac_T (st : Nat → Int32) (p c : Nat → Nat) (al wh : Nat → Int32) : Prop :=
  (∀ k, p k < 16) ∧ p 0 = 0 ∧ ¬ st 0 = 0 ∧ (∀ k, k < 16 → ¬ st k = 0 → ¬ st (p k) = 0 ∧ ∃ n, ac_up p n k = 0) ∧ (∀ k, c k ≤ 4) ∧ (∀ k, al k = 0 ∨ al k = 1) ∧ (∀ k, 6 ≤ wh k → vp_in (wh k - 6) 2)
/-- where it is sure, the component's tables are right -/
def ac_C (st cl : Nat → Int32) (p c : Nat → Nat) (al wh : Nat → Int32) (t : Nat → Nat → Bool) (fl gr su pa oc : Nat → Int32) : Prop :=
  ∀ k, k < 16 → ¬ st k = 0 → ¬ su k = 0 → ∀ pp, pp < 6 → pa (k * 6 + pp) = ac_mk (ac_P cl p c al wh t fl gr pp k) ∧ oc (k * 6 + pp) = ac_mk (ac_A cl p c al wh t fl gr pp k)
theorem ac_us {α : Type} {f : Nat → α} {k : Nat} {x : α} : ac_u f k x k = x := if_pos rfl
theorem ac_un {α : Type} {f : Nat → α} {k j : Nat} {x : α} (h : j ≠ k) : ac_u f k x j = f j := if_neg h
theorem ac_u_xp (p : Nat → Nat) {o : Nat} (q : Nat) (h : o ≠ 0) : upd (ac_xp p) o (nI q) = ac_xp (ac_u p o q) := by
  funext j
  by_cases e : j = o
  · subst e
    rw [pk_us]
    show _ = if j = 0 then _ else _
    rw [if_neg h, ac_us]
  · rw [pk_un e]
    show (if j = 0 then (-1 : Int32) else nI (p j)) = if j = 0 then -1 else nI (ac_u p o q j)
    rw [ac_un e]
theorem ac_u_nn (p : Nat → Nat) (o q : Nat) : upd (ac_nn p) o (nI q) = ac_nn (ac_u p o q) := by
  funext j
  show _ = nI (ac_u p o q j)
  by_cases e : j = o
  · subst e; rw [pk_us, ac_us]
  · rw [pk_un e, ac_un e]; rfl
theorem ac_u_mm (t : Nat → Nat → Bool) (o : Nat) (f : Nat → Bool) : upd (ac_mm t) o (ac_mk f) = ac_mm (ac_u t o f) := by
  funext j
  show _ = ac_mk (ac_u t o f j)
  by_cases e : j = o
  · subst e; rw [pk_us, ac_us]
  · rw [pk_un e, ac_un e]; rfl
section
variable {st cl al wh fl gr su su' pa oc : Nat → Int32} {p c : Nat → Nat} {t : Nat → Nat → Bool}
theorem ac_g0 : ac_g cl 0 = false := by
  unfold ac_g
  rw [decide_eq_false (show ¬ (0 ≠ 0) from fun h => h rfl), Bool.and_false]
theorem ac_fit2 (f : Int32) {s : Nat} (h : 2 ≤ s) : ac_fit f s = ac_fit f 2 := by
  match s, h with
  | _ + 2, _ => rfl
theorem ac_any2 {b s pp r : Nat} {a : Bool} (h : 2 ≤ s) : ∀ n, ac_any al wh t fl gr b s pp a r n = ac_any al wh t fl gr b 2 pp a r n := by
  intro n
  induction n with
  | zero => rfl
  | succ n ih =>
    show (ac_any al wh t fl gr b s pp a r n || (ac_w al wh fl gr (b + n) s pp a && t (b + n) r)) = (ac_any al wh t fl gr b 2 pp a r n || (ac_w al wh fl gr (b + n) 2 pp a && t (b + n) r))
    rw [ih]
    unfold ac_w
    rw [ac_fit2 _ h]
theorem ac_e2 {pp x s r : Nat} {a : Bool} (h : 2 ≤ s) : ac_e c al wh t fl gr pp x s r a = ac_e c al wh t fl gr pp x 2 r a := ac_any2 h _
theorem ac_T15 (hT : ac_T st p c al wh) {k : Nat} (hk : k < 16) (hs : ¬ st k = 0) : ac_up p 15 k = 0 := ac_up15 hT.1 hT.2.1 hk (hT.2.2.2.1 k hk hs).2
theorem ac_Tup (hT : ac_T st p c al wh) : ∀ n k, k < 16 → ¬ st k = 0 → ac_up p n k < 16 ∧ ¬ st (ac_up p n k) = 0 := by
  intro n
  induction n with
  | zero => intro k hk hs; exact ⟨hk, hs⟩
  | succ n ih => intro k hk hs; exact ih (p k) (hT.1 k) (hT.2.2.2.1 k hk hs).1
theorem ac_P_rec (hT : ac_T st p c al wh) {k : Nat} (hk : k < 16) (hs : ¬ st k = 0) (pp r : Nat) :
    ac_P cl p c al wh t fl gr pp k r = (!(ac_e c al wh t fl gr pp k 2 r false) && (ac_e c al wh t fl gr pp k 2 r true || (ac_g cl k && ac_P cl p c al wh t fl gr pp (p k) r))) :=
  ac_p_rec ac_g0 (ac_T15 hT hk hs)
theorem ac_A_rec (hT : ac_T st p c al wh) {k : Nat} (hk : k < 16) (hs : ¬ st k = 0) (pp r : Nat) :
    ac_A cl p c al wh t fl gr pp k r = (!(ac_e c al wh t fl gr pp k 0 r false) && (ac_e c al wh t fl gr pp k 0 r true || (ac_g cl k && (!(ac_e c al wh t fl gr pp (p k) 1 r false) && (ac_e c al wh t fl gr pp (p k) 1 r true || (ac_g cl (p k) && ac_P cl p c al wh t fl gr pp (p (p k)) r)))))) :=
  ac_y_rec ac_g0 hT.2.1 (fun _ _ _ h => ac_e2 h) (ac_T15 hT hk hs)
end
/-! the tables stay right where nothing above has changed -/
section
variable {st cl al wh fl gr su pa oc : Nat → Int32} {p c : Nat → Nat} {t : Nat → Nat → Bool}
variable {st' cl' al' wh' fl' gr' su' : Nat → Int32} {p' c' : Nat → Nat} {t' : Nat → Nat → Bool}
theorem ac_e_agree {x : Nat} (hc : c' x = c x) (hc4 : c x ≤ 4) (h : ∀ i, i < 4 → al' (x * 4 + i) = al (x * 4 + i) ∧ wh' (x * 4 + i) = wh (x * 4 + i) ∧ t' (x * 4 + i) = t (x * 4 + i) ∧ fl' (x * 4 + i) = fl (x * 4 + i)) (pp s r : Nat) (a : Bool) :
    ac_e c' al' wh' t' fl' gr pp x s r a = ac_e c al wh t fl gr pp x s r a := by
  unfold ac_e
  rw [hc]
  revert hc4
  generalize c x = n
  intro hn
  induction n with
  | zero => rfl
  | succ n ih =>
    show (ac_any al' wh' t' fl' gr (x * 4) s pp a r n || (ac_w al' wh' fl' gr (x * 4 + n) s pp a && t' (x * 4 + n) r)) = (ac_any al wh t fl gr (x * 4) s pp a r n || (ac_w al wh fl gr (x * 4 + n) s pp a && t (x * 4 + n) r))
    obtain ⟨h1, h2, h3, h4⟩ := h n (by omega)
    rw [ih (by omega)]
    unfold ac_w
    rw [h1, h2, h3, h4]
/-- one object's own data -/
def ac_same (o : Nat) (cl cl' : Nat → Int32) (p p' c c' : Nat → Nat) (al al' wh wh' : Nat → Int32) (t t' : Nat → Nat → Bool) (fl fl' : Nat → Int32) : Prop :=
  ∀ x, x ≠ o → cl' x = cl x ∧ p' x = p x ∧ c' x = c x ∧ ∀ i, i < 4 → al' (x * 4 + i) = al (x * 4 + i) ∧ wh' (x * 4 + i) = wh (x * 4 + i) ∧ t' (x * 4 + i) = t (x * 4 + i) ∧ fl' (x * 4 + i) = fl (x * 4 + i)
theorem ac_AP_agree {N : Nat → Prop} {o : Nat} (hc4 : ∀ k, c k ≤ 4) (hS : ac_same o cl cl' p p' c c' al al' wh wh' t t' fl fl') (hN : ∀ x, N x → x ≠ o ∧ N (p x)) {k : Nat} (hk : N k) (pp : Nat) :
    ac_P cl' p' c' al' wh' t' fl' gr pp k = ac_P cl p c al wh t fl gr pp k ∧ ac_A cl' p' c' al' wh' t' fl' gr pp k = ac_A cl p c al wh t fl gr pp k := by
  have ha : ∀ r x, N x → p' x = p x ∧ ac_g cl' x = ac_g cl x ∧ ∀ s a, ac_e c' al' wh' t' fl' gr pp x s r a = ac_e c al wh t fl gr pp x s r a := by
    intro r x hx
    obtain ⟨h1, h2, h3, h4⟩ := hS x (hN x hx).1
    refine ⟨h2, ?_, fun s a => ac_e_agree h3 (hc4 x) h4 pp s r a⟩
    unfold ac_g
    rw [h1]
  constructor
  · funext r
    exact ac_p_agree (fun x hx => (hN x hx).2) (ha r) 16 k hk
  · funext r
    exact ac_y_agree (fun x hx => (hN x hx).2) (ha r) 17 0 k hk
/-- doubt below o: what remains sure is not below o -/
def ac_D (st : Nat → Int32) (p : Nat → Nat) (o : Nat) (su su' : Nat → Int32) : Prop :=
  ∀ k, k < 16 → ¬ su' k = 0 → ¬ su k = 0 ∧ ¬ (¬ st k = 0 ∧ ∃ j, ac_up p j k = o)
theorem ac_C_doubt {o : Nat} (hc4 : ∀ k, c k ≤ 4) (hS : ac_same o cl cl' p p' c c' al al' wh wh' t t' fl fl') (hC : ac_C st cl p c al wh t fl gr su pa oc) (hD : ac_D st p' o su su') : ac_C st cl' p' c' al' wh' t' fl' gr su' pa oc := by
  intro k hk hs hsu pp hpp
  obtain ⟨h1, h2⟩ := hD k hk hsu
  have hn : ∀ j, ac_up p' j k ≠ o := fun j e => h2 ⟨hs, j, e⟩
  have hA := ac_AP_agree (gr := gr) (N := fun x => ∀ j, ac_up p' j x ≠ o) hc4 hS (by
    intro x hx
    have hxo : x ≠ o := hx 0
    refine ⟨hxo, fun j e => ?_⟩
    rw [← (hS x hxo).2.1] at e
    exact hx (j + 1) e) (k := k) hn pp
  rw [hA.1, hA.2]
  exact hC k hk hs h1 pp hpp
end
end
section
/-! the reference's walks against the pure picture -/
theorem ac_n1 : nI 1 = 1 := rfl
theorem ac_b1 : ¬ ac_b true = 0 := by decide
theorem ac_sel {z : Int32} (h : z = 0 ∨ z = 1) (a : Bool) : (decide (z = 0) == !a) = decide (z = ac_b a) := by
  rcases h with rfl | rfl <;> cases a <;> decide
def ac_cg (f : Nat → Bool) (p : Nat → Nat) : Nat → Nat → Bool
  | 0, _ => f 0
  | n + 1, x => if x = 0 then f 0 else f x && ac_cg f p n (p x)
def ac_R (st cl : Nat → Int32) (p c : Nat → Nat) (al wh : Nat → Int32) (t : Nat → Nat → Bool) (fl gr : Nat → Int32) (k pp : Nat) : Int32 := if st k = 0 then -3 else ac_mk (ac_A cl p c al wh t fl gr pp k)
section
variable {st cl al wh fl gr yb : Nat → Int32} {p c : Nat → Nat} {t : Nat → Nat → Bool} {post : Int32 → Prop}
theorem ac_ylist {k s : Nat} (hk : k < 64) (hs : s < 2 ^ 31) (K : post (ac_b (ac_fit (fl k) s))) : wpY_isListed post (st, (ac_nn p), cl, gr, (ac_nn c), al, wh, (ac_mm t), fl, yb) (nI k) (nI s) := by
  have hin : vp_in (nI k) 64 := vp_in_nI hk (by decide)
  unfold wpY_isListed
  dsimp only
  rw [nI_clamp (show k < 2 ^ 31 by omega)]
  match s, hs, K with
  | 0, _, K =>
    refine br_t nI_0 ⟨hin, ?_⟩
    by_cases h : fl k &&& 2 = 0
    · rw [show ac_fit (fl k) 0 = true from decide_eq_true h] at K
      exact br_t h K
    · rw [show ac_fit (fl k) 0 = false from decide_eq_false h] at K
      exact br_f h K
  | 1, _, K =>
    refine br_f (nI_ne0 (by omega) (by omega)) ⟨hin, ?_⟩
    by_cases h : fl k &&& 1 = 1
    · rw [show ac_fit (fl k) 1 = true from decide_eq_true h] at K
      exact br_t h (br_t ac_n1 K)
    · rw [show ac_fit (fl k) 1 = false from decide_eq_false h] at K
      exact br_f h K
  | s + 2, hs, K =>
    have hs1 : ¬ nI (s + 2) = 1 := by rw [← ac_n1, nI_eq hs (by omega)]; omega
    refine br_f (nI_ne0 (by omega) hs) ⟨hin, ?_⟩
    have e : ac_fit (fl k) (s + 2) = (decide (fl k &&& 1 = 1) && decide (fl k &&& 4 = 0)) := rfl
    rw [e] at K
    by_cases h : fl k &&& 1 = 1
    · rw [decide_eq_true h, Bool.true_and] at K
      refine br_t h (br_f hs1 ⟨hin, ?_⟩)
      by_cases h4 : fl k &&& 4 = 0
      · rw [decide_eq_true h4] at K
        exact br_t h4 K
      · rw [decide_eq_false h4] at K
        exact br_f h4 K
    · rw [decide_eq_false h, Bool.false_and] at K
      exact br_f h K
theorem ac_ycov {w q : Int32} (hw : 6 ≤ w → vp_in (w - 6) 2) (K : post (ac_b (ac_cov gr w q))) : wpY_covers post (st, (ac_nn p), cl, gr, (ac_nn c), al, wh, (ac_mm t), fl, yb) w q := by
  unfold wpY_covers
  dsimp only
  unfold ac_cov at K
  by_cases h : 6 ≤ w
  · rw [if_pos h] at K
    refine br_t h ⟨hw h, ?_⟩
    by_cases h4 : ((gr (w - 6).toNatClampNeg >>> (q &&& 31)) &&& 1) = 1
    · rw [decide_eq_true h4] at K
      exact br_t h4 K
    · rw [decide_eq_false h4] at K
      exact br_f h4 K
  · rw [if_neg h] at K
    refine br_f h ?_
    by_cases h4 : w = q
    · rw [decide_eq_true h4] at K
      exact br_t h4 K
    · rw [decide_eq_false h4] at K
      exact br_f h4 K
theorem ac_ysome5 {x s pp r : Nat} {a : Bool} (hx : x < 16) (hs : s < 2 ^ 31) (hr : r < 4) (hT : ac_T st p c al wh) (K : post (ac_b (ac_e c al wh t fl gr pp x s r a))) :
    ∀ d i n, i + d = c x → d < n → ac_any al wh t fl gr (x * 4) s pp a r i = false → wY_someEntry_5 post (nI x) (nI s) (nI pp) (nI r) (ac_b a) st (ac_nn p) cl gr (ac_nn c) al wh (ac_mm t) fl yb n (nI (x * 4 + i)) := by
  have hc4 : c x ≤ 4 := hT.2.2.2.2.1 x
  have hal := hT.2.2.2.2.2.1
  have hwh := hT.2.2.2.2.2.2
  have hE : 4 * nI x + ac_nn c (nI x).toNatClampNeg = nI (x * 4 + c x) := by
    rw [nI_clamp (by omega)]
    show nI 4 * nI x + nI (c x) = _
    rw [pk_mul, nI_add, Nat.mul_comm]
  intro d
  induction d with
  | zero =>
    intro i n hi hn hf
    obtain ⟨n, rfl⟩ : ∃ m, n = m + 1 := ⟨n - 1, by omega⟩
    have hic : i = c x := by omega
    have e0 : ac_e c al wh t fl gr pp x s r a = false := by rw [← hf, hic]; rfl
    rw [e0] at K
    refine ⟨vp_in_nI hx (by decide), br_t ?_ K⟩
    rw [hE]
    exact nI_le (by omega) (by omega)
  | succ d ih =>
    intro i n hi hn hf
    obtain ⟨n, rfl⟩ : ∃ m, n = m + 1 := ⟨n - 1, by omega⟩
    have hin : vp_in (nI (x * 4 + i)) 64 := vp_in_nI (by omega) (by decide)
    have hcl : (nI (x * 4 + i)).toNatClampNeg = x * 4 + i := nI_clamp (by omega)
    have hrec : (ac_w al wh fl gr (x * 4 + i) s pp a && t (x * 4 + i) r) = false → ∀ y, y = nI (x * 4 + i) + 1 → wY_someEntry_5 post (nI x) (nI s) (nI pp) (nI r) (ac_b a) st (ac_nn p) cl gr (ac_nn c) al wh (ac_mm t) fl yb n y := by
      intro hw
      refine nm_r (nI_1 _) (ih (i + 1) n (by omega) (by omega) ?_)
      show (ac_any al wh t fl gr (x * 4) s pp a r i || (ac_w al wh fl gr (x * 4 + i) s pp a && t (x * 4 + i) r)) = false
      rw [hf, hw]; rfl
    have hW : ac_w al wh fl gr (x * 4 + i) s pp a = (ac_fit (fl (x * 4 + i)) s && ac_cov gr (wh (x * 4 + i)) (nI pp) && decide (al (x * 4 + i) = ac_b a)) := by
      unfold ac_w
      rw [ac_sel (hal _)]
    have htb : ((ac_mm t (x * 4 + i) >>> (nI r &&& 31)) &&& 1) = 1 ↔ t (x * 4 + i) r = true := by
      rw [ac_bit _ (by omega)]
      show bt (ac_mk (t (x * 4 + i))) r = true ↔ _
      rw [ac_mk_bt _ hr]
    refine ⟨vp_in_nI hx (by decide), br_f ?_ ⟨hin, ?_⟩⟩
    · rw [hE]
      exact nI_ge (by omega) (by omega)
    rw [hcl]
    by_cases ha : al (x * 4 + i) = ac_b a
    · refine br_t ha (ac_ylist (by omega) hs ?_)
      cases hfit : ac_fit (fl (x * 4 + i)) s with
      | false => exact br_t rfl (hrec (by rw [hW, hfit]; rfl))
      | true =>
        refine br_f ac_b1 ⟨hin, ac_ycov (hwh _) ?_⟩
        cases hcov : ac_cov gr (wh (x * 4 + i)) (nI pp) with
        | false => exact br_t rfl (hrec (by rw [hW, hfit, hcov]; rfl))
        | true =>
          refine br_f ac_b1 ⟨hin, ?_⟩
          by_cases htt : t (x * 4 + i) r = true
          · refine br_t (htb.mpr htt) ?_
            have e1 : ac_e c al wh t fl gr pp x s r a = true := by
              have hge : ∀ m, ac_any al wh t fl gr (x * 4) s pp a r (i + 1 + m) = true := by
                intro m
                induction m with
                | zero =>
                  show (ac_any al wh t fl gr (x * 4) s pp a r i || (ac_w al wh fl gr (x * 4 + i) s pp a && t (x * 4 + i) r)) = true
                  rw [hW, hfit, hcov, htt, decide_eq_true ha, hf]; rfl
                | succ m im =>
                  show (ac_any al wh t fl gr (x * 4) s pp a r (i + 1 + m) || _) = true
                  rw [im]; rfl
              have hm := hge (c x - (i + 1))
              rw [show i + 1 + (c x - (i + 1)) = c x by omega] at hm
              exact hm
            rw [e1] at K
            exact K
          · exact br_f (fun z => htt (htb.mp z)) (hrec (by rw [Bool.eq_false_iff.mpr htt, Bool.and_false]))
    · exact br_f ha (hrec (by rw [hW, decide_eq_false ha, Bool.and_false, Bool.false_and]))
theorem ac_ysome {x s pp r : Nat} (a : Bool) (hx : x < 16) (hs : s < 2 ^ 31) (hr : r < 4) (hT : ac_T st p c al wh) (K : post (ac_b (ac_e c al wh t fl gr pp x s r a))) :
    wpY_someEntry post (st, (ac_nn p), cl, gr, (ac_nn c), al, wh, (ac_mm t), fl, yb) (nI x) (nI s) (nI pp) (nI r) (ac_b a) := by
  unfold wpY_someEntry
  dsimp only
  refine nm_r (e' := nI (x * 4 + 0)) ?_ ⟨c x + 1, ac_ysome5 hx hs hr hT K (c x) 0 (c x + 1) (by omega) (by omega) rfl⟩
  show nI 4 * nI x = _
  rw [pk_mul, Nat.mul_comm]; rfl
theorem ac_yallow6 {pp r : Nat} (hr : r < 4) (hT : ac_T st p c al wh) : ∀ d s x n, s + d = 17 → d < n → x < 16 → post (ac_b (ac_y (ac_e c al wh t fl gr) (ac_g cl) p pp r d s x)) → wY_allowed_6 post (nI pp) (nI r) st (ac_nn p) cl gr (ac_nn c) al wh (ac_mm t) fl yb n (nI x) (nI s) := by
  intro d
  induction d with
  | zero =>
    intro s x n hs hn hx K
    obtain ⟨n, rfl⟩ : ∃ m, n = m + 1 := ⟨n - 1, by omega⟩
    have : s = 17 := by omega
    subst this
    exact br_t (nI_le (b := 17) (Nat.le_refl 17) (by decide)) K
  | succ d ih =>
    intro s x n hs hn hx K
    obtain ⟨n, rfl⟩ : ∃ m, n = m + 1 := ⟨n - 1, by omega⟩
    rw [ac_y_s] at K
    refine br_f (nI_ge (b := 17) (show s < 17 by omega) (by decide)) (ac_ysome false hx (by omega) hr hT ?_)
    cases h0 : ac_e c al wh t fl gr pp x s r false with
    | true =>
      rw [h0] at K
      exact br_f ac_b1 K
    | false =>
      rw [h0] at K
      refine br_t rfl (ac_ysome true hx (by omega) hr hT ?_)
      cases h1 : ac_e c al wh t fl gr pp x s r true with
      | true =>
        rw [h1] at K
        exact br_f ac_b1 K
      | false =>
        rw [h1] at K
        refine br_t rfl ?_
        by_cases x0 : x = 0
        · subst x0
          rw [ac_g0] at K
          exact br_t nI_0 K
        · refine br_f (nI_ne0 (by omega) (by omega)) ⟨vp_in_nI hx (by decide), ?_⟩
          rw [nI_clamp (show x < 2 ^ 31 by omega)]
          by_cases hc : cl x = 0
          · have hg : ac_g cl x = true := by unfold ac_g; rw [decide_eq_true hc, decide_eq_true x0]; rfl
            rw [hg] at K
            exact br_t hc ⟨vp_in_nI hx (by decide), nm_r (e' := nI (p x)) rfl (nm_r (nI_1 s) (ih (s + 1) (p x) n (by omega) (by omega) (hT.1 x) K))⟩
          · have hg : ac_g cl x = false := by unfold ac_g; rw [decide_eq_false hc]; rfl
            rw [hg] at K
            exact br_f hc K
theorem ac_yallow {o pp r : Nat} (ho : o < 16) (hr : r < 4) (hT : ac_T st p c al wh) (K : post (ac_b (ac_A cl p c al wh t fl gr pp o r))) : wpY_allowed post (st, (ac_nn p), cl, gr, (ac_nn c), al, wh, (ac_mm t), fl, yb) (nI o) (nI pp) (nI r) := by
  unfold wpY_allowed
  dsimp only
  exact ⟨18, ac_yallow6 hr hT 17 0 o 18 (by omega) (by omega) ho K⟩
theorem ac_yrights35 {o pp : Nat} (ho : o < 16) (hT : ac_T st p c al wh) : ∀ d i z n, i + d = 4 → d < n → post (ac_fo (ac_A cl p c al wh t fl gr pp o) d z i) → wY_rights_35 post (nI o) (nI pp) st (ac_nn p) cl gr (ac_nn c) al wh (ac_mm t) fl yb n z (nI i) := by
  intro d
  induction d with
  | zero =>
    intro i z n hi hn K
    obtain ⟨n, rfl⟩ : ∃ m, n = m + 1 := ⟨n - 1, by omega⟩
    have : i = 4 := by omega
    subst this
    exact br_t (nI_le (b := 4) (Nat.le_refl 4) (by decide)) K
  | succ d ih =>
    intro i z n hi hn K
    obtain ⟨n, rfl⟩ : ∃ m, n = m + 1 := ⟨n - 1, by omega⟩
    refine br_f (nI_ge (b := 4) (show i < 4 by omega) (by decide)) (ac_yallow ho (by omega) hT ?_)
    cases h : ac_A cl p c al wh t fl gr pp o i with
    | true =>
      rw [ac_fo_t h] at K
      exact br_f ac_b1 (nm_e (nm_r (nI_1 i) (ih (i + 1) _ n (by omega) (by omega) K)))
    | false =>
      rw [ac_fo_f h] at K
      exact br_t rfl (nm_r (nI_1 i) (ih (i + 1) _ n (by omega) (by omega) K))
theorem ac_ywho35 {o r : Nat} (ho : o < 16) (hr : r < 4) (hT : ac_T st p c al wh) : ∀ d i z n, i + d = 6 → d < n → post (ac_fo (fun pp => ac_A cl p c al wh t fl gr pp o r) d z i) → wY_who_35 post (nI o) (nI r) st (ac_nn p) cl gr (ac_nn c) al wh (ac_mm t) fl yb n z (nI i) := by
  intro d
  induction d with
  | zero =>
    intro i z n hi hn K
    obtain ⟨n, rfl⟩ : ∃ m, n = m + 1 := ⟨n - 1, by omega⟩
    have : i = 6 := by omega
    subst this
    exact br_t (nI_le (b := 6) (Nat.le_refl 6) (by decide)) K
  | succ d ih =>
    intro i z n hi hn K
    obtain ⟨n, rfl⟩ : ∃ m, n = m + 1 := ⟨n - 1, by omega⟩
    refine br_f (nI_ge (b := 6) (show i < 6 by omega) (by decide)) (ac_yallow ho hr hT ?_)
    cases h : ac_A cl p c al wh t fl gr i o r with
    | true =>
      rw [ac_fo_t (f := fun pp => ac_A cl p c al wh t fl gr pp o r) h] at K
      exact br_f ac_b1 (nm_e (nm_r (nI_1 i) (ih (i + 1) _ n (by omega) (by omega) K)))
    | false =>
      rw [ac_fo_f (f := fun pp => ac_A cl p c al wh t fl gr pp o r) h] at K
      exact br_t rfl (nm_r (nI_1 i) (ih (i + 1) _ n (by omega) (by omega) K))
theorem ac_ycount23 {pp r : Nat} (hr : r < 4) (hT : ac_T st p c al wh) (K : post (nI (ac_cn (fun o => !decide (st o = 0) && ac_A cl p c al wh t fl gr pp o r) 16))) :
    ∀ d i n, i + d = 16 → d < n → wY_count_23 post (nI pp) (nI r) st (ac_nn p) cl gr (ac_nn c) al wh (ac_mm t) fl yb n (nI (ac_cn (fun o => !decide (st o = 0) && ac_A cl p c al wh t fl gr pp o r) i)) (nI i) := by
  intro d
  induction d with
  | zero =>
    intro i n hi hn
    obtain ⟨n, rfl⟩ : ∃ m, n = m + 1 := ⟨n - 1, by omega⟩
    have : i = 16 := by omega
    subst this
    exact br_t (nI_le (b := 16) (Nat.le_refl 16) (by decide)) K
  | succ d ih =>
    intro i n hi hn
    obtain ⟨n, rfl⟩ : ∃ m, n = m + 1 := ⟨n - 1, by omega⟩
    have ih := ih (i + 1) n (by omega) (by omega)
    refine br_f (nI_ge (b := 16) (show i < 16 by omega) (by decide)) ⟨vp_in_nI (by omega) (by decide), ?_⟩
    rw [nI_clamp (show i < 2 ^ 31 by omega)]
    by_cases hs : st i = 0
    · rw [ac_cn_f (by show (!decide (st i = 0) && _) = false; rw [decide_eq_true hs]; rfl)] at ih
      exact br_t hs (nm_r (nI_1 i) ih)
    · refine br_f hs (ac_yallow (by omega) hr hT ?_)
      cases h : ac_A cl p c al wh t fl gr pp i r with
      | true =>
        rw [ac_cn_t (by show (!decide (st i = 0) && _) = true; rw [decide_eq_false hs, h]; rfl)] at ih
        exact br_f ac_b1 (nm_r (nI_1 _) (nm_r (nI_1 i) ih))
      | false =>
        rw [ac_cn_f (by show (!decide (st i = 0) && _) = false; rw [h, Bool.and_false])] at ih
        exact br_t rfl (nm_r (nI_1 i) ih)
theorem ac_nb (b : Bool) : narrow .boolean (.int (ac_b b)) = .int (ac_b b) := by cases b <;> rfl
theorem ac_ycango41 {pp : Nat} (hT : ac_T st p c al wh) (K : post (ac_b (ac_A cl p c al wh t fl gr pp 0 0))) : wY_canGo_41 post (nI pp) st (ac_nn p) cl gr (ac_nn c) al wh (ac_mm t) fl yb := by
  unfold wY_canGo_41
  exact ac_yallow (o := 0) (r := 0) (by omega) (by omega) hT ⟨ac_nb _, K⟩
theorem ac_ycango5 {pp : Nat} (hT : ac_T st p c al wh) : ∀ d i x n, i + d = 16 → d < n → x < 16 → post (ac_b (ac_cg (fun k => ac_A cl p c al wh t fl gr pp k 0) p d x)) → wY_canGo_5 post (nI pp) st (ac_nn p) cl gr (ac_nn c) al wh (ac_mm t) fl yb n (nI x) (nI i) := by
  intro d
  induction d with
  | zero =>
    intro i x n hi hn hx K
    obtain ⟨n, rfl⟩ : ∃ m, n = m + 1 := ⟨n - 1, by omega⟩
    have : i = 16 := by omega
    subst this
    exact br_t (nI_le (b := 16) (Nat.le_refl 16) (by decide)) (ac_ycango41 hT K)
  | succ d ih =>
    intro i x n hi hn hx K
    obtain ⟨n, rfl⟩ : ∃ m, n = m + 1 := ⟨n - 1, by omega⟩
    refine br_f (nI_ge (b := 16) (show i < 16 by omega) (by decide)) ?_
    have e : ac_cg (fun k => ac_A cl p c al wh t fl gr pp k 0) p (d + 1) x = if x = 0 then ac_A cl p c al wh t fl gr pp 0 0 else ac_A cl p c al wh t fl gr pp x 0 && ac_cg (fun k => ac_A cl p c al wh t fl gr pp k 0) p d (p x) := rfl
    rw [e] at K
    by_cases x0 : x = 0
    · rw [if_pos x0] at K
      subst x0
      exact br_t nI_0 (ac_ycango41 hT K)
    · rw [if_neg x0] at K
      refine br_f (nI_ne0 (by omega) (by omega)) (ac_yallow (r := 0) hx (by omega) hT ?_)
      cases h : ac_A cl p c al wh t fl gr pp x 0 with
      | true =>
        rw [h, Bool.true_and] at K
        refine br_f ac_b1 ⟨vp_in_nI hx (by decide), ?_⟩
        rw [nI_clamp (show x < 2 ^ 31 by omega)]
        exact nm_r (e' := nI (p x)) rfl (nm_r (nI_1 i) (ih (i + 1) (p x) n (by omega) (by omega) (hT.1 x) K))
      | false =>
        rw [h, Bool.false_and] at K
        exact br_t rfl K
theorem ac_ycango {o pp : Nat} (ho : o < 16) (hT : ac_T st p c al wh) (K : post (ac_b (ac_cg (fun k => ac_A cl p c al wh t fl gr pp k 0) p 16 o))) : wpY_canGo post (st, (ac_nn p), cl, gr, (ac_nn c), al, wh, (ac_mm t), fl, yb) (nI o) (nI pp) := by
  unfold wpY_canGo
  dsimp only
  exact ⟨17, ac_ycango5 hT 16 0 o 17 (by omega) (by omega) ho K⟩
theorem ac_yreach14 {pp : Nat} (hT : ac_T st p c al wh) (K : post (nI (ac_cn (fun o => !decide (st o = 0) && ac_cg (fun k => ac_A cl p c al wh t fl gr pp k 0) p 16 o) 16))) :
    ∀ d i n, i + d = 16 → d < n → wY_reach_14 post (nI pp) st (ac_nn p) cl gr (ac_nn c) al wh (ac_mm t) fl yb n (nI (ac_cn (fun o => !decide (st o = 0) && ac_cg (fun k => ac_A cl p c al wh t fl gr pp k 0) p 16 o) i)) (nI i) := by
  intro d
  induction d with
  | zero =>
    intro i n hi hn
    obtain ⟨n, rfl⟩ : ∃ m, n = m + 1 := ⟨n - 1, by omega⟩
    have : i = 16 := by omega
    subst this
    exact br_t (nI_le (b := 16) (Nat.le_refl 16) (by decide)) K
  | succ d ih =>
    intro i n hi hn
    obtain ⟨n, rfl⟩ : ∃ m, n = m + 1 := ⟨n - 1, by omega⟩
    have ih := ih (i + 1) n (by omega) (by omega)
    refine br_f (nI_ge (b := 16) (show i < 16 by omega) (by decide)) ⟨vp_in_nI (by omega) (by decide), ?_⟩
    rw [nI_clamp (show i < 2 ^ 31 by omega)]
    by_cases hs : st i = 0
    · rw [ac_cn_f (by show (!decide (st i = 0) && _) = false; rw [decide_eq_true hs]; rfl)] at ih
      exact br_t hs (nm_r (nI_1 i) ih)
    · refine br_f hs (ac_ycango (by omega) hT ?_)
      cases h : ac_cg (fun k => ac_A cl p c al wh t fl gr pp k 0) p 16 i with
      | true =>
        rw [ac_cn_t (by show (!decide (st i = 0) && _) = true; rw [decide_eq_false hs, h]; rfl)] at ih
        exact br_f ac_b1 (nm_r (nI_1 _) (nm_r (nI_1 i) ih))
      | false =>
        rw [ac_cn_f (by show (!decide (st i = 0) && _) = false; rw [h, Bool.and_false])] at ih
        exact br_t rfl (nm_r (nI_1 i) ih)
end
end
section
/-! the component's walks: settling, working out, making sure -/
section
variable {gA gD : Int32} {st cl al wh fl gr su pa pd oc wy bf : Nat → Int32} {p c : Nat → Nat} {t : Nat → Nat → Bool} {post : SX → Prop}
theorem ac_xcov {post : Int32 → Prop} {w q : Int32} (hw : 6 ≤ w → vp_in (w - 6) 2) (K : post (ac_b (ac_cov gr w q))) : wpX_covers post (gA, gD, st, (ac_xp p), cl, (ac_nn c), al, wh, (ac_mm t), fl, gr, su, pa, pd, oc, wy, bf) w q := by
  unfold wpX_covers
  dsimp only
  unfold ac_cov at K
  by_cases h : 6 ≤ w
  · rw [if_pos h] at K
    refine br_t h ⟨hw h, ?_⟩
    by_cases h4 : ((gr (w - 6).toNatClampNeg >>> (q &&& 31)) &&& 1) = 1
    · rw [decide_eq_true h4] at K
      exact br_t h4 K
    · rw [decide_eq_false h4] at K
      exact br_f h4 K
  · rw [if_neg h] at K
    refine br_f h ?_
    by_cases h4 : w = q
    · rw [decide_eq_true h4] at K
      exact br_t h4 K
    · rw [decide_eq_false h4] at K
      exact br_f h4 K
theorem ac_xsb59 {J : Int32 → Int32 → Int32 → Prop} {x1 x2 x3 x4 x5 x6 x7 : Int32} {k : Nat} (z : Bool) (hk : k < 64) (hwh : ∀ k, 6 ≤ wh k → vp_in (wh k - 6) 2)
    (K0 : (z && ac_cov gr (wh k) x2) = false → J x5 x6 (x7 + 1))
    (K1 : z = true → ac_cov gr (wh k) x2 = true → al k = 0 → J (x5 ||| ac_mm t k) x6 (x7 + 1))
    (K2 : z = true → ac_cov gr (wh k) x2 = true → ¬ al k = 0 → J x5 (x6 ||| ac_mm t k) (x7 + 1)) :
    wX_settleBy_59 post J x1 x2 x3 x4 x5 x6 x7 (nI k) (ac_b z) gA gD st (ac_xp p) cl (ac_nn c) al wh (ac_mm t) fl gr su pa pd oc wy bf := by
  unfold wX_settleBy_59
  have hin : vp_in (nI k) 64 := vp_in_nI hk (by decide)
  rw [nI_clamp (show k < 2 ^ 31 by omega)]
  cases z with
  | false => exact br_t rfl (nm_e (K0 rfl))
  | true =>
    refine br_f ac_b1 ⟨hin, ac_xcov (hwh _) ?_⟩
    cases h : ac_cov gr (wh k) x2 with
    | false => exact br_t rfl (nm_e (K0 (by rw [h]; rfl)))
    | true =>
      refine br_f ac_b1 ⟨hin, ?_⟩
      by_cases ha : al k = 0
      · exact br_t ha ⟨hin, nm_e (nm_e (K1 rfl h ha))⟩
      · exact br_f ha ⟨hin, nm_e (nm_e (K2 rfl h ha))⟩
theorem ac_any_same {b s pp i : Nat} {a : Bool} (h : ac_w al wh fl gr (b + i) s pp a = false) : (fun r => ac_any al wh t fl gr b s pp a r (i + 1)) = fun r => ac_any al wh t fl gr b s pp a r i := by
  funext r
  show (ac_any al wh t fl gr b s pp a r i || (ac_w al wh fl gr (b + i) s pp a && t (b + i) r)) = _
  rw [h, Bool.false_and, Bool.or_false]
theorem ac_any_more {b s pp i : Nat} {a : Bool} (h : ac_w al wh fl gr (b + i) s pp a = true) : ac_mk (fun r => ac_any al wh t fl gr b s pp a r i) ||| ac_mm t (b + i) = ac_mk (fun r => ac_any al wh t fl gr b s pp a r (i + 1)) := by
  show _ ||| ac_mk (t (b + i)) = _
  rw [ac_mk_or]
  refine congrArg ac_mk (funext fun r => ?_)
  show _ = (ac_any al wh t fl gr b s pp a r i || (ac_w al wh fl gr (b + i) s pp a && t (b + i) r))
  rw [h, Bool.true_and]
theorem ac_xsb9 {x s pp : Nat} {m m' : Int32} {fa fd : Nat → Bool} (hx : x < 16) (hT : ac_T st p c al wh) (hf : ∀ f : Int32, (f &&& m = m ∧ f &&& m' = 0) ↔ ac_fit f s = true)
    (hA : gA = ac_mk fa) (hD : gD = ac_mk fd)
    (K : post ((ac_mk (fun r => fa r || (ac_e c al wh t fl gr pp x s r true && !(fd r || (ac_e c al wh t fl gr pp x s r false && !(fa r)))))), (ac_mk (fun r => fd r || (ac_e c al wh t fl gr pp x s r false && !(fa r)))), st, (ac_xp p), cl, (ac_nn c), al, wh, (ac_mm t), fl, gr, su, pa, pd, oc, wy, bf)) :
    ∀ d i n, i + d = c x → d < n → wX_settleBy_9 post (nI x) (nI pp) m m' gA gD st (ac_xp p) cl (ac_nn c) al wh (ac_mm t) fl gr su pa pd oc wy bf n (ac_mk (fun r => ac_any al wh t fl gr (x * 4) s pp false r i)) (ac_mk (fun r => ac_any al wh t fl gr (x * 4) s pp true r i)) (nI i) := by
  have hc4 : c x ≤ 4 := hT.2.2.2.2.1 x
  have hE : ac_nn c (nI x).toNatClampNeg = nI (c x) := by rw [nI_clamp (by omega)]; rfl
  intro d
  induction d with
  | zero =>
    intro i n hi hn
    obtain ⟨n, rfl⟩ : ∃ m, n = m + 1 := ⟨n - 1, by omega⟩
    have hic : i = c x := by omega
    subst hic
    refine ⟨vp_in_nI hx (by decide), br_t ?_ (nm_r (e' := ac_mk (fun r => fd r || (ac_e c al wh t fl gr pp x s r false && !(fa r)))) ?_ (nm_r (e' := ac_mk (fun r => fa r || (ac_e c al wh t fl gr pp x s r true && !(fd r || (ac_e c al wh t fl gr pp x s r false && !(fa r)))))) ?_ K))⟩
    · rw [hE]
      exact nI_le (by omega) (by omega)
    · rw [hA, hD, ac_mk_an, ac_mk_or]; rfl
    · rw [hA, ac_mk_an, ac_mk_or]; rfl
  | succ d ih =>
    intro i n hi hn
    obtain ⟨n, rfl⟩ : ∃ m, n = m + 1 := ⟨n - 1, by omega⟩
    have ih := ih (i + 1) n (by omega) (by omega)
    have hin : vp_in (nI (x * 4 + i)) 64 := vp_in_nI (by omega) (by decide)
    have e4 : nI x * 4 + nI i = nI (x * 4 + i) := by
      show nI x * nI 4 + nI i = _
      rw [pk_mul, nI_add]
    have go : ∀ z, z = ac_fit (fl (x * 4 + i)) s → wX_settleBy_59 post (wX_settleBy_9 post (nI x) (nI pp) m m' gA gD st (ac_xp p) cl (ac_nn c) al wh (ac_mm t) fl gr su pa pd oc wy bf n) (nI x) (nI pp) m m' (ac_mk (fun r => ac_any al wh t fl gr (x * 4) s pp false r i)) (ac_mk (fun r => ac_any al wh t fl gr (x * 4) s pp true r i)) (nI i) (nI (x * 4 + i)) (ac_b z) gA gD st (ac_xp p) cl (ac_nn c) al wh (ac_mm t) fl gr su pa pd oc wy bf := by
      intro z hz
      refine ac_xsb59 z (by omega) hT.2.2.2.2.2.2 ?_ ?_ ?_
      · intro h
        rw [hz] at h
        have hw : ∀ a, ac_w al wh fl gr (x * 4 + i) s pp a = false := by
          intro a
          unfold ac_w
          rw [h, Bool.false_and]
        rw [ac_any_same (hw _), ac_any_same (hw _)] at ih
        rw [nI_1]
        exact ih
      · intro h1 h2 h3
        have hw1 : ac_w al wh fl gr (x * 4 + i) s pp false = true := by
          unfold ac_w
          rw [← hz, h1, h2, decide_eq_true h3]; rfl
        have hw2 : ac_w al wh fl gr (x * 4 + i) s pp true = false := by
          unfold ac_w
          rw [decide_eq_true h3, show (true == !true) = false from rfl, Bool.and_false]
        rw [ac_any_same hw2, ← ac_any_more hw1] at ih
        rw [nI_1]
        exact ih
      · intro h1 h2 h3
        have hw1 : ac_w al wh fl gr (x * 4 + i) s pp true = true := by
          unfold ac_w
          rw [← hz, h1, h2, decide_eq_false h3]; rfl
        have hw2 : ac_w al wh fl gr (x * 4 + i) s pp false = false := by
          unfold ac_w
          rw [decide_eq_false h3, show (false == !false) = false from rfl, Bool.and_false]
        rw [ac_any_same hw2, ← ac_any_more hw1] at ih
        rw [nI_1]
        exact ih
    refine ⟨vp_in_nI hx (by decide), br_f ?_ (nm_r e4 ⟨hin, ?_⟩)⟩
    · rw [hE]
      exact nI_ge (by omega) (by omega)
    rw [nI_clamp (show x * 4 + i < 2 ^ 31 by omega)]
    by_cases h1 : fl (x * 4 + i) &&& m = m
    · refine br_t h1 ⟨hin, ?_⟩
      by_cases h2 : fl (x * 4 + i) &&& m' = 0
      · exact br_t h2 (go true ((hf _).mp ⟨h1, h2⟩).symm)
      · exact br_f h2 (go false (Bool.eq_false_iff.mpr (fun z => h2 ((hf _).mpr z).2)).symm)
    · exact br_f h1 (go false (Bool.eq_false_iff.mpr (fun z => h1 ((hf _).mpr z).1)).symm)
theorem ac_xsettleBy {x : Nat} (s : Nat) {pp : Nat} {m m' : Int32} {fa fd : Nat → Bool} (hx : x < 16) (hT : ac_T st p c al wh) (hf : ∀ f : Int32, (f &&& m = m ∧ f &&& m' = 0) ↔ ac_fit f s = true)
    (hA : gA = ac_mk fa) (hD : gD = ac_mk fd)
    (K : post ((ac_mk (fun r => fa r || (ac_e c al wh t fl gr pp x s r true && !(fd r || (ac_e c al wh t fl gr pp x s r false && !(fa r)))))), (ac_mk (fun r => fd r || (ac_e c al wh t fl gr pp x s r false && !(fa r)))), st, (ac_xp p), cl, (ac_nn c), al, wh, (ac_mm t), fl, gr, su, pa, pd, oc, wy, bf)) :
    wpX_settleBy post (gA, gD, st, (ac_xp p), cl, (ac_nn c), al, wh, (ac_mm t), fl, gr, su, pa, pd, oc, wy, bf) (nI x) (nI pp) m m' := by
  unfold wpX_settleBy
  dsimp only
  have h := ac_xsb9 hx hT hf hA hD K (c x) 0 (c x + 1) (by omega) (by omega)
  rw [show ac_mk (fun r => ac_any al wh t fl gr (x * 4) s pp false r 0) = 0 from ac_mk_0.symm, show ac_mk (fun r => ac_any al wh t fl gr (x * 4) s pp true r 0) = 0 from ac_mk_0.symm] at h
  exact ⟨c x + 1, h⟩
theorem ac_and0 (f : Int32) : f &&& 0 = 0 := by
  apply b_ext
  intro i _
  rw [b_and, b_0, Bool.and_false]
theorem ac_fit14 (f : Int32) : (f &&& 1 = 1 ∧ f &&& 4 = 0) ↔ ac_fit f 2 = true := by
  show _ ↔ (decide (f &&& 1 = 1) && decide (f &&& 4 = 0)) = true
  rw [Bool.and_eq_true, decide_eq_true_iff, decide_eq_true_iff]
theorem ac_fit02 (f : Int32) : (f &&& 0 = 0 ∧ f &&& 2 = 0) ↔ ac_fit f 0 = true := by
  show _ ↔ decide (f &&& 2 = 0) = true
  rw [decide_eq_true_iff]
  exact ⟨fun h => h.2, fun h => ⟨ac_and0 f, h⟩⟩
theorem ac_fit10 (f : Int32) : (f &&& 1 = 1 ∧ f &&& 0 = 0) ↔ ac_fit f 1 = true := by
  show _ ↔ decide (f &&& 1 = 1) = true
  rw [decide_eq_true_iff]
  exact ⟨fun h => h.1, fun h => ⟨h, ac_and0 f⟩⟩
theorem ac_xsettleFrom {x pp : Nat} {fa fd h : Nat → Bool} (hx : x < 16) (hp : pp < 6) (hA : gA = ac_mk fa) (hD : gD = ac_mk fd) (hP : pa (x * 6 + pp) = ac_mk h)
    (K : ∀ z, post ((ac_mk (fun r => fa r || (h r && !(fa r || fd r)))), z, st, (ac_xp p), cl, (ac_nn c), al, wh, (ac_mm t), fl, gr, su, pa, pd, oc, wy, bf)) : wpX_settleFrom post (gA, gD, st, (ac_xp p), cl, (ac_nn c), al, wh, (ac_mm t), fl, gr, su, pa, pd, oc, wy, bf) (nI x) (nI pp) := by
  unfold wpX_settleFrom
  dsimp only
  have e6 : nI x * 6 + nI pp = nI (x * 6 + pp) := by
    show nI x * nI 6 + nI pp = _
    rw [pk_mul, nI_add]
  have hin : vp_in (nI (x * 6 + pp)) 96 := vp_in_nI (by omega) (by decide)
  refine nm_r e6 (nm_e ⟨hin, ?_⟩)
  rw [nI_clamp (show x * 6 + pp < 2 ^ 31 by omega)]
  refine nm_r (e' := ac_mk (fun r => fa r || (h r && !(fa r || fd r)))) ?_ ⟨hin, nm_e (K _)⟩
  rw [hA, hD, hP, ac_mk_or, ac_mk_an, ac_mk_or]
theorem ac_xgoes {post : Int32 → Prop} {k : Nat} (hk : k < 16) (K : post (ac_b (ac_g cl k))) : wpX_goesOn post (gA, gD, st, (ac_xp p), cl, (ac_nn c), al, wh, (ac_mm t), fl, gr, su, pa, pd, oc, wy, bf) (nI k) := by
  unfold wpX_goesOn
  dsimp only
  refine ⟨vp_in_nI hk (by decide), ?_⟩
  rw [nI_clamp (show k < 2 ^ 31 by omega)]
  unfold ac_g at K
  by_cases h : cl k = 0
  · refine br_t h ?_
    rw [decide_eq_true h, Bool.true_and] at K
    by_cases k0 : k = 0
    · subst k0
      exact br_t nI_0 K
    · rw [decide_eq_true (show k ≠ 0 from k0)] at K
      exact br_f (nI_ne0 (by omega) (by omega)) K
  · rw [decide_eq_false h, Bool.false_and] at K
    exact br_f h K
theorem ac_mk_ext {f g : Nat → Bool} (h : ∀ r, f r = g r) : ac_mk f = ac_mk g := congrArg ac_mk (funext h)
theorem ac_xpn {p : Nat → Nat} {k : Nat} (h : k ≠ 0) : ac_xp p k = nI (p k) := if_neg h
theorem ac_gne {k : Nat} (h : ac_g cl k = true) : k ≠ 0 := by
  intro e
  subst e
  rw [ac_g0] at h
  exact absurd h (by decide)
/-- the second half of one person's turn -/
theorem ac_xwo52 {J : Int32 → Int32 → Int32 → (Nat → Int32) → (Nat → Int32) → (Nat → Int32) → (Nat → Int32) → (Nat → Int32) → (Nat → Int32) → (Nat → Int32) → (Nat → Int32) → (Nat → Int32) → (Nat → Int32) → (Nat → Int32) → (Nat → Int32) → (Nat → Int32) → (Nat → Int32) → (Nat → Int32) → Prop}
    {x pp : Nat} (hx : x < 16) (hp : pp < 6) (hT : ac_T st p c al wh) (hs : ¬ st x = 0) (hA : gA = ac_mk (ac_P cl p c al wh t fl gr pp x))
    (hP : ac_g cl x = true → ac_g cl (p x) = true → upd pa (x * 6 + pp) gA (p (p x) * 6 + pp) = ac_mk (ac_P cl p c al wh t fl gr pp (p (p x))))
    (K : ∀ gA' gD' pd', J (nI (pp + 1)) gA' gD' st (ac_xp p) cl (ac_nn c) al wh (ac_mm t) fl gr su (upd pa (x * 6 + pp) gA) pd' (upd oc (x * 6 + pp) (ac_mk (ac_A cl p c al wh t fl gr pp x))) wy bf) :
    wX_workOut_52 post J (nI x) (nI pp) (nI (x * 6 + pp)) gA gD st (ac_xp p) cl (ac_nn c) al wh (ac_mm t) fl gr su pa pd oc wy bf := by
  unfold wX_workOut_52
  have hin : vp_in (nI (x * 6 + pp)) 96 := vp_in_nI (by omega) (by decide)
  have hcl : (nI (x * 6 + pp)).toNatClampNeg = x * 6 + pp := nI_clamp (by omega)
  have hout : ∀ gA' gD' pd', gA' = ac_mk (ac_A cl p c al wh t fl gr pp x) → wX_workOut_136 post J (nI x) (nI pp) (nI (x * 6 + pp)) gA' gD' st (ac_xp p) cl (ac_nn c) al wh (ac_mm t) fl gr su (upd pa (x * 6 + pp) gA) pd' oc wy bf := by
    intro gA' gD' pd' e
    unfold wX_workOut_136
    refine ⟨hin, ?_⟩
    rw [hcl]
    subst e
    exact nm_e (nm_r (nI_1 pp) (K _ _ _))
  rw [hcl]
  refine ⟨hin, nm_e ⟨hin, nm_e ?_⟩⟩
  refine ac_xsettleBy 0 (fa := fun _ => false) (fd := fun _ => false) hx hT ac_fit02 ac_mk_0 ac_mk_0 ?_
  dsimp only
  refine ac_xgoes hx ?_
  cases hg : ac_g cl x with
  | false =>
    refine br_t rfl (hout _ _ _ ?_)
    refine ac_mk_ext (fun r => ?_)
    rw [ac_A_rec hT hx hs, hg]
    generalize ac_e c al wh t fl gr pp x 0 r true = e1
    generalize ac_e c al wh t fl gr pp x 0 r false = e0
    cases e0 <;> cases e1 <;> rfl
  | true =>
    have hx0 := ac_gne hg
    refine br_f ac_b1 ⟨vp_in_nI hx (by decide), nm_r (e' := nI (p x)) ?_ ?_⟩
    · rw [nI_clamp (show x < 2 ^ 31 by omega), ac_xpn hx0]
    refine ac_xsettleBy 1 (hT.1 x) hT ac_fit10 rfl rfl ?_
    dsimp only
    refine ac_xgoes (hT.1 x) ?_
    cases hg2 : ac_g cl (p x) with
    | false =>
      refine br_t rfl (hout _ _ _ ?_)
      refine ac_mk_ext (fun r => ?_)
      rw [ac_A_rec hT hx hs, hg, hg2]
      generalize ac_e c al wh t fl gr pp x 0 r true = e1
      generalize ac_e c al wh t fl gr pp x 0 r false = e0
      generalize ac_e c al wh t fl gr pp (p x) 1 r true = f1
      generalize ac_e c al wh t fl gr pp (p x) 1 r false = f0
      cases e0 <;> cases e1 <;> cases f0 <;> cases f1 <;> rfl
    | true =>
      have hpx0 := ac_gne hg2
      have hpx := hT.1 x
      refine br_f ac_b1 ⟨vp_in_nI hpx (by decide), ?_⟩
      rw [nI_clamp (show p x < 2 ^ 31 by omega), ac_xpn hpx0]
      refine ac_xsettleFrom (hT.1 (p x)) hp rfl rfl (hP hg hg2) ?_
      intro z
      dsimp only
      refine hout _ _ _ ?_
      refine ac_mk_ext (fun r => ?_)
      rw [ac_A_rec hT hx hs, hg, hg2]
      generalize ac_e c al wh t fl gr pp x 0 r true = e1
      generalize ac_e c al wh t fl gr pp x 0 r false = e0
      generalize ac_e c al wh t fl gr pp (p x) 1 r true = f1
      generalize ac_e c al wh t fl gr pp (p x) 1 r false = f0
      generalize ac_P cl p c al wh t fl gr pp (p (p x)) r = h0
      cases e0 <;> cases e1 <;> cases f0 <;> cases f1 <;> cases h0 <;> rfl
end
end
section
/-! working out one object, making sure -/
theorem ac_vn1 : vp_nar .boolean 1 = 1 := rfl
theorem ac_vn0 : vp_nar .boolean 0 = 0 := rfl
section
variable {gA gD : Int32} {st cl al wh fl gr su pa pd oc wy bf : Nat → Int32} {p c : Nat → Nat} {t : Nat → Nat → Bool} {post : SX → Prop}
theorem ac_C_put {x pp : Nat} (hp : pp < 6) (hC : ac_C st cl p c al wh t fl gr su pa oc) : ac_C st cl p c al wh t fl gr su (upd pa (x * 6 + pp) (ac_mk (ac_P cl p c al wh t fl gr pp x))) (upd oc (x * 6 + pp) (ac_mk (ac_A cl p c al wh t fl gr pp x))) := by
  intro k hk hs hsu q hq
  by_cases e : k * 6 + q = x * 6 + pp
  · have e1 : k = x := by omega
    have e2 : q = pp := by omega
    subst e1 e2
    rw [pk_us, pk_us]
    exact ⟨rfl, rfl⟩
  · rw [pk_un e, pk_un e]
    exact hC k hk hs hsu q hq
theorem ac_xwo2 {x : Nat} (hx : x < 16) (hT : ac_T st p c al wh) (hs : ¬ st x = 0) (hu : x ≠ 0 → ¬ su (p x) = 0 ∧ (p x ≠ 0 → ¬ su (p (p x)) = 0))
    (K : ∀ gA gD pa pd oc, ac_C st cl p c al wh t fl gr (upd su x 1) pa oc → post (gA, gD, st, (ac_xp p), cl, (ac_nn c), al, wh, (ac_mm t), fl, gr, (upd su x 1), pa, pd, oc, wy, bf)) :
    ∀ d pp n gA gD pa pd oc, pp + d = 6 → d < n → ac_C st cl p c al wh t fl gr su pa oc → (∀ q, q < pp → pa (x * 6 + q) = ac_mk (ac_P cl p c al wh t fl gr q x) ∧ oc (x * 6 + q) = ac_mk (ac_A cl p c al wh t fl gr q x)) → wX_workOut_2 post (nI x) n (nI pp) gA gD st (ac_xp p) cl (ac_nn c) al wh (ac_mm t) fl gr su pa pd oc wy bf := by
  intro d
  induction d with
  | zero =>
    intro pp n gA gD pa pd oc hd hn hC hq
    obtain ⟨n, rfl⟩ : ∃ m, n = m + 1 := ⟨n - 1, by omega⟩
    have : pp = 6 := by omega
    subst this
    refine br_t (nI_le (b := 6) (Nat.le_refl 6) (by decide)) ⟨vp_in_nI hx (by decide), ?_⟩
    rw [nI_clamp (show x < 2 ^ 31 by omega), ac_vn1]
    refine nm_e (K _ _ _ _ _ ?_)
    intro k hk hks hsu q hq6
    by_cases e : k = x
    · subst e
      exact hq q hq6
    · rw [pk_un e] at hsu
      exact hC k hk hks hsu q hq6
  | succ d ih =>
    intro pp n gA gD pa pd oc hd hn hC hq
    obtain ⟨n, rfl⟩ : ∃ m, n = m + 1 := ⟨n - 1, by omega⟩
    have hpp : pp < 6 := by omega
    have e6 : nI x * 6 + nI pp = nI (x * 6 + pp) := by
      show nI x * nI 6 + nI pp = _
      rw [pk_mul, nI_add]
    have h52 : ∀ gA' gD', gA' = ac_mk (ac_P cl p c al wh t fl gr pp x) → wX_workOut_52 post (wX_workOut_2 post (nI x) n) (nI x) (nI pp) (nI (x * 6 + pp)) gA' gD' st (ac_xp p) cl (ac_nn c) al wh (ac_mm t) fl gr su pa pd oc wy bf := by
      intro gA' gD' e
      refine ac_xwo52 hx hpp hT hs e ?_ ?_
      · intro h1 h2
        have hx0 := ac_gne h1
        have hpx0 := ac_gne h2
        have a1 := hT.2.2.2.1 x hx hs
        have a2 := hT.2.2.2.1 (p x) (hT.1 x) a1.1
        rw [e]
        exact ((ac_C_put (x := x) hpp hC) (p (p x)) (hT.1 (p x)) a2.1 ((hu hx0).2 hpx0) pp hpp).1
      · intro gA2 gD2 pd2
        subst e
        refine ih (pp + 1) n _ _ _ _ _ (by omega) (by omega) (ac_C_put hpp hC) ?_
        intro q hq1
        by_cases e : q = pp
        · subst e
          rw [pk_us, pk_us]
          exact ⟨rfl, rfl⟩
        · rw [pk_un (by omega), pk_un (by omega)]
          exact hq q (by omega)
    refine br_f (nI_ge (b := 6) (show pp < 6 by omega) (by decide)) (nm_r e6 ?_)
    refine ac_xsettleBy 2 (fa := fun _ => false) (fd := fun _ => false) hx hT ac_fit14 ac_mk_0 ac_mk_0 ?_
    dsimp only
    refine ac_xgoes hx ?_
    cases hg : ac_g cl x with
    | false =>
      refine br_t rfl (h52 _ _ ?_)
      refine ac_mk_ext (fun r => ?_)
      rw [ac_P_rec hT hx hs, hg]
      generalize ac_e c al wh t fl gr pp x 2 r true = e1
      generalize ac_e c al wh t fl gr pp x 2 r false = e0
      cases e0 <;> cases e1 <;> rfl
    | true =>
      have hx0 := ac_gne hg
      have a1 := hT.2.2.2.1 x hx hs
      refine br_f ac_b1 ⟨vp_in_nI hx (by decide), ?_⟩
      rw [nI_clamp (show x < 2 ^ 31 by omega), ac_xpn hx0]
      refine ac_xsettleFrom (hT.1 x) hpp rfl rfl (hC (p x) (hT.1 x) a1.1 (hu hx0).1 pp hpp).1 ?_
      intro z
      dsimp only
      refine h52 _ _ ?_
      refine ac_mk_ext (fun r => ?_)
      rw [ac_P_rec hT hx hs, hg]
      generalize ac_e c al wh t fl gr pp x 2 r true = e1
      generalize ac_e c al wh t fl gr pp x 2 r false = e0
      generalize ac_P cl p c al wh t fl gr pp (p x) r = h0
      cases e0 <;> cases e1 <;> cases h0 <;> rfl
theorem ac_xworkOut {x : Nat} (hx : x < 16) (hT : ac_T st p c al wh) (hs : ¬ st x = 0) (hu : x ≠ 0 → ¬ su (p x) = 0 ∧ (p x ≠ 0 → ¬ su (p (p x)) = 0)) (hC : ac_C st cl p c al wh t fl gr su pa oc)
    (K : ∀ gA gD pa pd oc, ac_C st cl p c al wh t fl gr (upd su x 1) pa oc → post (gA, gD, st, (ac_xp p), cl, (ac_nn c), al, wh, (ac_mm t), fl, gr, (upd su x 1), pa, pd, oc, wy, bf)) : wpX_workOut post (gA, gD, st, (ac_xp p), cl, (ac_nn c), al, wh, (ac_mm t), fl, gr, su, pa, pd, oc, wy, bf) (nI x) := by
  unfold wpX_workOut
  dsimp only
  exact ⟨7, ac_xwo2 hx hT hs hu K 6 0 7 _ _ _ _ _ (by omega) (by omega) hC (fun q hq => absurd hq (by omega))⟩
theorem ac_xens46 {o m : Nat} (ho : o < 16) (hso : ¬ st o = 0) (hT : ac_T st p c al wh) (hm : ac_up p m o = 0) (hml : ∀ j, j < m → ac_up p j o ≠ 0) (hm15 : m ≤ 15) (hwy : ∀ j, j ≤ m → wy j = nI (ac_up p j o))
    (K : ∀ gA gD su pa pd oc, ac_C st cl p c al wh t fl gr su pa oc → ¬ su o = 0 → post (gA, gD, st, (ac_xp p), cl, (ac_nn c), al, wh, (ac_mm t), fl, gr, su, pa, pd, oc, wy, bf)) :
    ∀ i n gA gD su pa pd oc, i ≤ m + 1 → i < n → ac_C st cl p c al wh t fl gr su pa oc → (∀ j, i ≤ j → j ≤ m → ¬ su (ac_up p j o) = 0) → wX_ensure_46 post n (nI i + (-1)) gA gD st (ac_xp p) cl (ac_nn c) al wh (ac_mm t) fl gr su pa pd oc wy bf := by
  intro i
  induction i with
  | zero =>
    intro n gA gD su pa pd oc _ hn hC hj
    obtain ⟨n, rfl⟩ : ∃ m, n = m + 1 := ⟨n - 1, by omega⟩
    exact br_t (show nI 0 + (-1) < (0 : Int32) by decide) (K _ _ _ _ _ _ hC (hj 0 (by omega) (by omega)))
  | succ i ih =>
    intro n gA gD su pa pd oc hi hn hC hj
    obtain ⟨n, rfl⟩ : ∃ m, n = m + 1 := ⟨n - 1, by omega⟩
    rw [pk_m1]
    have hU := ac_Tup hT i o ho hso
    refine br_f (nI_pos (by omega)) ⟨vp_in_nI (by omega) (by decide), ?_⟩
    rw [nI_clamp (show i < 2 ^ 31 by omega), hwy i (by omega), nI_clamp (show ac_up p i o < 2 ^ 31 by omega)]
    refine ⟨vp_in_nI hU.1 (by decide), ?_⟩
    by_cases hsu : su (ac_up p i o) = 0
    · refine br_t hsu ⟨vp_in_nI (by omega) (by decide), ?_⟩
      refine ac_xworkOut hU.1 hT hU.2 ?_ hC ?_
      · intro h0
        have hne : i ≠ m := fun e => h0 (by rw [e]; exact hm)
        rw [← ac_up_s p i o]
        refine ⟨hj (i + 1) (by omega) (by omega), fun h1 => ?_⟩
        have hne2 : i + 1 ≠ m := fun e => h1 (by rw [e]; exact hm)
        rw [← ac_up_s p (i + 1) o]
        exact hj (i + 2) (by omega) (by omega)
      · intro gA2 gD2 pa2 pd2 oc2 hC2
        refine nm_e (ih n _ _ _ _ _ _ (by omega) (by omega) hC2 ?_)
        intro j h1 h2
        by_cases e : ac_up p j o = ac_up p i o
        · rw [e, pk_us]; decide
        · rw [pk_un e]
          refine hj j ?_ h2
          have : j ≠ i := fun z => e (by rw [z])
          omega
    · refine br_f hsu (nm_e (ih n _ _ _ _ _ _ (by omega) (by omega) hC ?_))
      intro j h1 h2
      by_cases e : j = i
      · rw [e]; exact hsu
      · exact hj j (by omega) h2
theorem ac_xens7 {o : Nat} (ho : o < 16) (hso : ¬ st o = 0) (hT : ac_T st p c al wh) (hC : ac_C st cl p c al wh t fl gr su pa oc)
    (K : ∀ gA gD su pa pd oc wy, ac_C st cl p c al wh t fl gr su pa oc → ¬ su o = 0 → post (gA, gD, st, (ac_xp p), cl, (ac_nn c), al, wh, (ac_mm t), fl, gr, su, pa, pd, oc, wy, bf)) :
    ∀ d i n wy, i + d = 16 → d < n → (∀ j, j < i → ac_up p j o ≠ 0) → (∀ j, j < i → wy j = nI (ac_up p j o)) → wX_ensure_7 post gA gD n (nI i) (nI (ac_up p i o)) (nI i) st (ac_xp p) cl (ac_nn c) al wh (ac_mm t) fl gr su pa pd oc wy bf := by
  have h15 := ac_T15 hT ho hso
  intro d
  induction d with
  | zero =>
    intro i n wy hi hn hne hwy
    exact absurd h15 (hne 15 (by omega))
  | succ d ih =>
    intro i n wy hi hn hne hwy
    obtain ⟨n, rfl⟩ : ∃ m, n = m + 1 := ⟨n - 1, by omega⟩
    have hU := ac_Tup hT i o ho hso
    have hd : i ≤ 15 := by
      by_cases h : i ≤ 15
      · exact h
      · exact absurd h15 (hne 15 (by omega))
    refine br_f (nI_ge (b := 16) (show i < 16 by omega) (by decide)) (br_f (nI_pos (by omega)) ⟨vp_in_nI (by omega) (by decide), ?_⟩)
    rw [nI_clamp (show i < 2 ^ 31 by omega), nI_clamp (show ac_up p i o < 2 ^ 31 by omega)]
    have hw2 : ∀ j, j < i + 1 → upd wy i (nI (ac_up p i o)) j = nI (ac_up p j o) := by
      intro j hj
      by_cases e : j = i
      · rw [e, pk_us]
      · rw [pk_un e]; exact hwy j (by omega)
    refine nm_e (nm_r (nI_1 i) ⟨vp_in_nI hU.1 (by decide), ?_⟩)
    by_cases hz : ac_up p i o = 0
    · refine nm_r (e' := -1) (by rw [hz]; rfl) (nm_r (nI_1 i) ?_)
      obtain ⟨n, rfl⟩ : ∃ m, n = m + 1 := ⟨n - 1, by by_cases h : d = 0 <;> omega⟩
      have H : ∀ y, y = nI (i + 1) - 1 → ∃ n46 : Nat, wX_ensure_46 post n46 y gA gD st (ac_xp p) cl (ac_nn c) al wh (ac_mm t) fl gr su pa pd oc (upd wy i (nI (ac_up p i o))) bf := by
        refine nm_r (e' := nI (i + 1) + (-1)) (by rw [nI_pred, pk_m1]) ⟨i + 2, ?_⟩
        exact ac_xens46 ho hso hT hz hne hd (fun j hj => hw2 j (by omega)) (fun gA gD su pa pd oc h1 h2 => K gA gD su pa pd oc _ h1 h2) (i + 1) (i + 2) _ _ _ _ _ _ (by omega) (by omega) hC (fun j h1 h2 => absurd h1 (by omega))
      exact br_c (fun _ => H) (fun _ => br_t (by decide) H)
    · refine nm_r (e' := nI (ac_up p (i + 1) o)) (by rw [ac_xpn hz, ac_up_s]) (nm_r (nI_1 i) ?_)
      refine ih (i + 1) n _ (by omega) (by omega) ?_ hw2
      intro j hj
      by_cases e : j = i
      · rw [e]; exact hz
      · exact hne j (by omega)
theorem ac_xensure {o : Nat} (ho : o < 16) (hso : ¬ st o = 0) (hT : ac_T st p c al wh) (hC : ac_C st cl p c al wh t fl gr su pa oc)
    (K : ∀ gA gD su pa pd oc wy, ac_C st cl p c al wh t fl gr su pa oc → ¬ su o = 0 → post (gA, gD, st, (ac_xp p), cl, (ac_nn c), al, wh, (ac_mm t), fl, gr, su, pa, pd, oc, wy, bf)) : wpX_ensure post (gA, gD, st, (ac_xp p), cl, (ac_nn c), al, wh, (ac_mm t), fl, gr, su, pa, pd, oc, wy, bf) (nI o) := by
  unfold wpX_ensure
  dsimp only
  exact ⟨17, ac_xens7 ho hso hT hC K 16 0 17 wy (by omega) (by omega) (fun j hj => absurd hj (by omega)) (fun j hj => absurd hj (by omega))⟩
end
end
section
/-! the subtree, doubt -/
def ac_Sub (st : Nat → Int32) (p : Nat → Nat) (o : Nat) (z : Int32) : Prop := ∀ k, k < 16 → (bt z k = true ↔ (¬ st k = 0 ∧ ∃ j, ac_up p j k = o))
section
variable {gA gD : Int32} {st cl al wh fl gr su pa pd oc wy bf : Nat → Int32} {p c : Nat → Nat} {t : Nat → Nat → Bool}
theorem ac_xsub15 {post : Int32 → Prop} {J : Int32 → Int32 → Prop} {o i : Nat} {z0 : Int32} (hp : ∀ k, p k < 16)
    (K : ∀ z, (∀ k, k < 16 → bt z k = true → ¬ st k = 0 ∧ ∃ j, ac_up p j k = o) → (∀ k, k < 16 → bt z0 k = true → bt z k = true) → (∀ q, 1 ≤ q → q < 16 → ¬ st q = 0 → bt z0 (p q) = true → bt z q = true) → J z (nI (i + 1))) :
    ∀ d k n z, k + d = 16 → d < n → 1 ≤ k → (∀ k, k < 16 → bt z k = true → ¬ st k = 0 ∧ ∃ j, ac_up p j k = o) → (∀ k, k < 16 → bt z0 k = true → bt z k = true) → (∀ q, 1 ≤ q → q < k → ¬ st q = 0 → bt z0 (p q) = true → bt z q = true) → wX_subtree_15 post J (nI i) gA gD st (ac_xp p) cl (ac_nn c) al wh (ac_mm t) fl gr su pa pd oc wy bf n z (nI k) := by
  intro d
  induction d with
  | zero =>
    intro k n z hk hn h1 hs hm hd
    obtain ⟨n, rfl⟩ : ∃ m, n = m + 1 := ⟨n - 1, by omega⟩
    have : k = 16 := by omega
    subst this
    exact br_t (nI_le (b := 16) (Nat.le_refl 16) (by decide)) (nm_r (nI_1 i) (K z hs hm hd))
  | succ d ih =>
    intro k n z hk hn h1 hs hm hd
    obtain ⟨n, rfl⟩ : ∃ m, n = m + 1 := ⟨n - 1, by omega⟩
    have hin : vp_in (nI k) 16 := vp_in_nI (by omega) (by decide)
    refine br_f (nI_ge (b := 16) (show k < 16 by omega) (by decide)) ⟨hin, ?_⟩
    rw [nI_clamp (show k < 2 ^ 31 by omega), ac_xpn (show k ≠ 0 by omega)]
    have hpk := hp k
    by_cases hst : st k = 0
    · refine br_t hst (nm_r (nI_1 k) (ih (k + 1) n z (by omega) (by omega) (by omega) hs hm ?_))
      intro q q1 q2 q3 q4
      by_cases e : q = k
      · subst e; exact absurd hst q3
      · exact hd q q1 (by omega) q3 q4
    · refine br_f hst ⟨hin, ?_⟩
      by_cases hb : bt z (p k) = true
      · refine br_t ((ac_bit z (by omega)).mpr hb) (nm_e (nm_r (nI_1 k) (ih (k + 1) n _ (by omega) (by omega) (by omega) ?_ ?_ ?_)))
        · intro q hq h
          rw [ac_bt_ins z (by omega) (by omega)] at h
          by_cases e : q = k
          · subst e
            obtain ⟨_, j, hj⟩ := hs (p q) hpk hb
            exact ⟨hst, j + 1, hj⟩
          · rw [decide_eq_false e, Bool.or_false] at h
            exact hs q hq h
        · intro q hq h
          rw [ac_bt_ins z (by omega) (by omega), hm q hq h]; rfl
        · intro q q1 q2 q3 q4
          rw [ac_bt_ins z (by omega) (by omega)]
          by_cases e : q = k
          · rw [decide_eq_true e, Bool.or_true]
          · rw [hd q q1 (by omega) q3 q4]; rfl
      · refine br_f (fun h => hb ((ac_bit z (by omega)).mp h)) (nm_r (nI_1 k) (ih (k + 1) n z (by omega) (by omega) (by omega) hs hm ?_))
        intro q q1 q2 q3 q4
        by_cases e : q = k
        · subst e; exact absurd (hm _ hpk q4) hb
        · exact hd q q1 (by omega) q3 q4
theorem ac_xsub6 {post : Int32 → Prop} {o : Nat} (hT : ac_T st p c al wh) (K : ∀ z, ac_Sub st p o z → post z) :
    ∀ d i n z, i + d = 16 → d < n → (∀ k, k < 16 → bt z k = true → ¬ st k = 0 ∧ ∃ j, ac_up p j k = o) → (∀ k, k < 16 → ¬ st k = 0 → ∀ j, j ≤ i → ac_up p j k = o → bt z k = true) → wX_subtree_6 post gA gD st (ac_xp p) cl (ac_nn c) al wh (ac_mm t) fl gr su pa pd oc wy bf n z (nI i) := by
  intro d
  induction d with
  | zero =>
    intro i n z hi hn hs hc
    obtain ⟨n, rfl⟩ : ∃ m, n = m + 1 := ⟨n - 1, by omega⟩
    have : i = 16 := by omega
    subst this
    refine br_t (nI_le (b := 16) (Nat.le_refl 16) (by decide)) (K z ?_)
    intro k hk
    refine ⟨hs k hk, ?_⟩
    rintro ⟨h1, j, hj⟩
    by_cases h : j ≤ 16
    · exact hc k hk h1 j h hj
    · have h15 := ac_T15 hT hk h1
      have h0 : ac_up p j k = 0 := ac_up_ge hT.2.1 h15 (by omega)
      exact hc k hk h1 15 (by omega) (by rw [h15, ← hj, h0])
  | succ d ih =>
    intro i n z hi hn hs hc
    obtain ⟨n, rfl⟩ : ∃ m, n = m + 1 := ⟨n - 1, by omega⟩
    refine br_f (nI_ge (b := 16) (show i < 16 by omega) (by decide)) ⟨16, ?_⟩
    refine ac_xsub15 (o := o) (i := i) (z0 := z) hT.1 ?_ 15 1 16 z (by omega) (by omega) (by omega) hs (fun k _ h => h) (fun q q1 q2 => absurd q2 (by omega))
    intro z' hs' hm' hd'
    refine ih (i + 1) n z' (by omega) (by omega) hs' ?_
    intro k hk h1 j hj he
    by_cases e : j ≤ i
    · exact hm' k hk (hc k hk h1 j e he)
    · have e2 : j = i + 1 := by omega
      subst e2
      by_cases k0 : k = 0
      · subst k0
        rw [ac_up_zero hT.2.1] at he
        exact hm' 0 (by omega) (hc 0 (by omega) h1 0 (by omega) he)
      · exact hd' k (by omega) hk h1 (hc (p k) (hT.1 k) (hT.2.2.2.1 k hk h1).1 i (by omega) he)
theorem ac_xsubtree {post : Int32 → Prop} {o : Nat} (ho : o < 16) (hso : ¬ st o = 0) (hT : ac_T st p c al wh) (K : ∀ z, ac_Sub st p o z → post z) : wpX_subtree post (gA, gD, st, (ac_xp p), cl, (ac_nn c), al, wh, (ac_mm t), fl, gr, su, pa, pd, oc, wy, bf) (nI o) := by
  unfold wpX_subtree
  dsimp only
  refine nm_e ⟨17, ac_xsub6 hT K 16 0 17 _ (by omega) (by omega) ?_ ?_⟩
  · intro k hk h
    rw [ac_bt_one (by omega) (by omega)] at h
    have e : k = o := of_decide_eq_true h
    subst e
    exact ⟨hso, 0, rfl⟩
  · intro k hk h1 j hj he
    have e : j = 0 := by omega
    subst e
    have e2 : k = o := he
    rw [ac_bt_one (by omega) (by omega), decide_eq_true e2]
theorem ac_xdoubt8 {post : SX → Prop} {o : Nat} {z : Int32} (hz : ac_Sub st p o z) (K : ∀ su', ac_D st p o su su' → post (gA, gD, st, (ac_xp p), cl, (ac_nn c), al, wh, (ac_mm t), fl, gr, su', pa, pd, oc, wy, bf)) :
    ∀ d k n su2, k + d = 16 → d < n → (∀ q, q < 16 → ¬ su2 q = 0 → ¬ su q = 0 ∧ (q < k → ¬ (¬ st q = 0 ∧ ∃ j, ac_up p j q = o))) → wX_doubt_8 post z gA gD n (nI k) st (ac_xp p) cl (ac_nn c) al wh (ac_mm t) fl gr su2 pa pd oc wy bf := by
  intro d
  induction d with
  | zero =>
    intro k n su2 hk hn h
    obtain ⟨n, rfl⟩ : ∃ m, n = m + 1 := ⟨n - 1, by omega⟩
    have : k = 16 := by omega
    subst this
    refine br_t (nI_le (b := 16) (Nat.le_refl 16) (by decide)) (K su2 ?_)
    intro q hq h1
    exact ⟨(h q hq h1).1, (h q hq h1).2 hq⟩
  | succ d ih =>
    intro k n su2 hk hn h
    obtain ⟨n, rfl⟩ : ∃ m, n = m + 1 := ⟨n - 1, by omega⟩
    refine br_f (nI_ge (b := 16) (show k < 16 by omega) (by decide)) ?_
    by_cases hb : bt z k = true
    · refine br_t ((ac_bit z (by omega)).mpr hb) ⟨vp_in_nI (by omega) (by decide), ?_⟩
      rw [nI_clamp (show k < 2 ^ 31 by omega), ac_vn0]
      refine nm_e (nm_r (nI_1 k) (ih (k + 1) n _ (by omega) (by omega) ?_))
      intro q hq h1
      by_cases e : q = k
      · subst e
        rw [pk_us] at h1
        exact absurd rfl h1
      · rw [pk_un e] at h1
        exact ⟨(h q hq h1).1, fun h2 => (h q hq h1).2 (by omega)⟩
    · refine br_f (fun h => hb ((ac_bit z (by omega)).mp h)) (nm_r (nI_1 k) (ih (k + 1) n _ (by omega) (by omega) ?_))
      intro q hq h1
      refine ⟨(h q hq h1).1, fun h2 => ?_⟩
      by_cases e : q = k
      · subst e
        exact fun h3 => hb ((hz q hq).mpr h3)
      · exact (h q hq h1).2 (by omega)
theorem ac_xdoubt {post : SX → Prop} {o : Nat} (ho : o < 16) (hso : ¬ st o = 0) (hT : ac_T st p c al wh) (K : ∀ su', ac_D st p o su su' → post (gA, gD, st, (ac_xp p), cl, (ac_nn c), al, wh, (ac_mm t), fl, gr, su', pa, pd, oc, wy, bf)) : wpX_doubt post (gA, gD, st, (ac_xp p), cl, (ac_nn c), al, wh, (ac_mm t), fl, gr, su, pa, pd, oc, wy, bf) (nI o) := by
  unfold wpX_doubt
  dsimp only
  refine ac_xsubtree ho hso hT ?_
  intro z hz
  exact ⟨17, ac_xdoubt8 hz K 16 0 17 su (by omega) (by omega) (fun q _ h => ⟨h, fun h2 => absurd h2 (by omega)⟩)⟩
theorem ac_xdoubtAll2 {post : SX → Prop} (K : ∀ su', (∀ k, k < 16 → su' k = 0) → post (gA, gD, st, (ac_xp p), cl, (ac_nn c), al, wh, (ac_mm t), fl, gr, su', pa, pd, oc, wy, bf)) :
    ∀ d k n su2, k + d = 16 → d < n → (∀ q, q < k → su2 q = 0) → wX_doubtAll_2 post gA gD n (nI k) st (ac_xp p) cl (ac_nn c) al wh (ac_mm t) fl gr su2 pa pd oc wy bf := by
  intro d
  induction d with
  | zero =>
    intro k n su2 hk hn h
    obtain ⟨n, rfl⟩ : ∃ m, n = m + 1 := ⟨n - 1, by omega⟩
    have : k = 16 := by omega
    subst this
    exact br_t (nI_le (b := 16) (Nat.le_refl 16) (by decide)) (K su2 h)
  | succ d ih =>
    intro k n su2 hk hn h
    obtain ⟨n, rfl⟩ : ∃ m, n = m + 1 := ⟨n - 1, by omega⟩
    refine br_f (nI_ge (b := 16) (show k < 16 by omega) (by decide)) ⟨vp_in_nI (by omega) (by decide), ?_⟩
    rw [nI_clamp (show k < 2 ^ 31 by omega), ac_vn0]
    refine nm_e (nm_r (nI_1 k) (ih (k + 1) n _ (by omega) (by omega) ?_))
    intro q hq
    by_cases e : q = k
    · rw [e, pk_us]
    · rw [pk_un e]; exact h q (by omega)
theorem ac_xdoubtAll {post : SX → Prop} (K : ∀ su', (∀ k, k < 16 → su' k = 0) → post (gA, gD, st, (ac_xp p), cl, (ac_nn c), al, wh, (ac_mm t), fl, gr, su', pa, pd, oc, wy, bf)) : wpX_doubtAll post (gA, gD, st, (ac_xp p), cl, (ac_nn c), al, wh, (ac_mm t), fl, gr, su, pa, pd, oc, wy, bf) := by
  unfold wpX_doubtAll
  dsimp only
  exact ⟨17, ac_xdoubtAll2 K 16 0 17 su (by omega) (by omega) (fun q h => absurd h (by omega))⟩
end
end
section
/-! the component's questions -/
theorem ac_cg_st {f : Nat → Bool} {p : Nat → Nat} : ∀ m x, ac_up p m x = 0 → ∀ n, m ≤ n → ac_cg f p n x = ac_cg f p m x := by
  intro m
  induction m with
  | zero =>
    intro x h n _
    have hx : x = 0 := h
    subst hx
    cases n with
    | zero => rfl
    | succ n => exact if_pos rfl
  | succ m ih =>
    intro x h n hn
    obtain ⟨n, rfl⟩ : ∃ k, n = k + 1 := ⟨n - 1, by omega⟩
    show (if x = 0 then f 0 else f x && ac_cg f p n (p x)) = if x = 0 then f 0 else f x && ac_cg f p m (p x)
    rw [ih (p x) h n (by omega)]
theorem ac_cg_rec {f : Nat → Bool} {p : Nat → Nat} {x : Nat} (h : ac_up p 15 x = 0) (hx : x ≠ 0) : ac_cg f p 16 x = (f x && ac_cg f p 16 (p x)) := by
  have e1 : ac_cg f p 16 x = ac_cg f p 15 x := ac_cg_st 15 x h 16 (by omega)
  have e2 : ac_cg f p 17 x = ac_cg f p 15 x := ac_cg_st 15 x h 17 (by omega)
  rw [e1, ← e2]
  exact if_neg hx
theorem ac_cg_0 {f : Nat → Bool} {p : Nat → Nat} : ac_cg f p 16 0 = f 0 := if_pos rfl
section
variable {gA gD : Int32} {st cl al wh fl gr su pa pd oc wy bf : Nat → Int32} {p c : Nat → Nat} {t : Nat → Nat → Bool} {post : Int32 → SX → Prop}
theorem ac_xbo {q : Int32 → Prop} {o : Nat} (ho : o < 16) (K : q 0) : wpX_badObject q (gA, gD, st, (ac_xp p), cl, (ac_nn c), al, wh, (ac_mm t), fl, gr, su, pa, pd, oc, wy, bf) (nI o) := by
  unfold wpX_badObject
  dsimp only
  exact br_f (nI_pos (by omega)) (br_t (nI_lt (b := 16) ho (by decide)) K)
theorem ac_xbon {q : Int32 → Prop} {v : Int32} (hv : v < 0 ∨ nI 16 ≤ v) (K : q 1) : wpX_badObject q (gA, gD, st, (ac_xp p), cl, (ac_nn c), al, wh, (ac_mm t), fl, gr, su, pa, pd, oc, wy, bf) v := by
  unfold wpX_badObject
  dsimp only
  by_cases h : v < 0
  · exact br_t h K
  · exact br_f h (br_f (Int32.not_lt.mpr (hv.resolve_left h)) K)
theorem ac_xbp {q : Int32 → Prop} {o : Nat} (ho : o < 6) (K : q 0) : wpX_badPerson q (gA, gD, st, (ac_xp p), cl, (ac_nn c), al, wh, (ac_mm t), fl, gr, su, pa, pd, oc, wy, bf) (nI o) := by
  unfold wpX_badPerson
  dsimp only
  exact br_f (nI_pos (by omega)) (br_t (nI_lt (b := 6) ho (by decide)) K)
theorem ac_xbpn {q : Int32 → Prop} {v : Int32} (hv : v < 0 ∨ nI 6 ≤ v) (K : q 1) : wpX_badPerson q (gA, gD, st, (ac_xp p), cl, (ac_nn c), al, wh, (ac_mm t), fl, gr, su, pa, pd, oc, wy, bf) v := by
  unfold wpX_badPerson
  dsimp only
  by_cases h : v < 0
  · exact br_t h K
  · exact br_f h (br_f (Int32.not_lt.mpr (hv.resolve_left h)) K)
theorem ac_xrights {o pp : Nat} (ho : o < 16) (hp : pp < 6) (hT : ac_T st p c al wh) (hC : ac_C st cl p c al wh t fl gr su pa oc)
    (K : ∀ gA gD su pa pd oc wy, ac_C st cl p c al wh t fl gr su pa oc → post (ac_R st cl p c al wh t fl gr o pp) (gA, gD, st, (ac_xp p), cl, (ac_nn c), al, wh, (ac_mm t), fl, gr, su, pa, pd, oc, wy, bf)) : wpX_rights post (gA, gD, st, (ac_xp p), cl, (ac_nn c), al, wh, (ac_mm t), fl, gr, su, pa, pd, oc, wy, bf) (nI o) (nI pp) := by
  unfold wpX_rights
  dsimp only
  refine ac_xbo ho (br_t rfl (ac_xbp hp (br_t rfl ⟨vp_in_nI ho (by decide), ?_⟩)))
  rw [nI_clamp (show o < 2 ^ 31 by omega)]
  by_cases hs : st o = 0
  · have K' := K gA gD su pa pd oc wy hC
    rw [show ac_R st cl p c al wh t fl gr o pp = -3 from if_pos hs] at K'
    exact br_t hs K'
  · rw [show ac_R st cl p c al wh t fl gr o pp = ac_mk (ac_A cl p c al wh t fl gr pp o) from if_neg hs] at K
    refine br_f hs (ac_xensure ho hs hT hC ?_)
    intro gA2 gD2 su2 pa2 pd2 oc2 wy2 hC2 hsu2
    have e6 : nI o * 6 + nI pp = nI (o * 6 + pp) := by
      show nI o * nI 6 + nI pp = _
      rw [pk_mul, nI_add]
    dsimp only
    rw [e6, nI_clamp (show o * 6 + pp < 2 ^ 31 by omega)]
    refine ⟨vp_in_nI (by omega) (by decide), ?_⟩
    rw [(hC2 o ho hs hsu2 pp hp).2]
    exact K _ _ _ _ _ _ _ hC2
theorem ac_xmay {o pp r : Nat} (ho : o < 16) (hp : pp < 6) (hr : r < 4) (hT : ac_T st p c al wh) (hC : ac_C st cl p c al wh t fl gr su pa oc)
    (K : ∀ gA gD su pa pd oc wy, ac_C st cl p c al wh t fl gr su pa oc → post (ac_b (!decide (st o = 0) && ac_A cl p c al wh t fl gr pp o r)) (gA, gD, st, (ac_xp p), cl, (ac_nn c), al, wh, (ac_mm t), fl, gr, su, pa, pd, oc, wy, bf)) : wpX_may post (gA, gD, st, (ac_xp p), cl, (ac_nn c), al, wh, (ac_mm t), fl, gr, su, pa, pd, oc, wy, bf) (nI o) (nI pp) (nI r) := by
  unfold wpX_may
  dsimp only
  refine br_f (nI_pos (by omega)) (br_t (nI_le (b := 3) (show r ≤ 3 by omega) (by decide)) (ac_xrights ho hp hT hC ?_))
  intro gA2 gD2 su2 pa2 pd2 oc2 wy2 hC2
  dsimp only
  have K2 := K gA2 gD2 su2 pa2 pd2 oc2 wy2 hC2
  by_cases hs : st o = 0
  · rw [show ac_R st cl p c al wh t fl gr o pp = -3 from if_pos hs]
    rw [decide_eq_true hs] at K2
    exact br_t (by decide) K2
  · rw [show ac_R st cl p c al wh t fl gr o pp = ac_mk (ac_A cl p c al wh t fl gr pp o) from if_neg hs]
    rw [decide_eq_false hs] at K2
    refine br_f (ac_mk_nn _) ?_
    rw [ac_bit _ (show r < 32 by omega), ac_mk_bt _ hr]
    cases h : ac_A cl p c al wh t fl gr pp o r with
    | true =>
      rw [h] at K2
      exact br_t rfl K2
    | false =>
      rw [h] at K2
      exact br_f (by decide) K2
theorem ac_xwho41 {o r : Nat} (ho : o < 16) (hr : r < 4) (ho6 : ∀ pp, pp < 6 → oc (o * 6 + pp) = ac_mk (ac_A cl p c al wh t fl gr pp o)) :
    ∀ d i z n, i + d = 6 → d < n → post (ac_fo (fun pp => ac_A cl p c al wh t fl gr pp o r) d z i) (gA, gD, st, (ac_xp p), cl, (ac_nn c), al, wh, (ac_mm t), fl, gr, su, pa, pd, oc, wy, bf) → wX_who_41 post (nI o) (nI r) gA gD st (ac_xp p) cl (ac_nn c) al wh (ac_mm t) fl gr su pa pd oc wy bf n z (nI i) := by
  intro d
  induction d with
  | zero =>
    intro i z n hi hn K
    obtain ⟨n, rfl⟩ : ∃ m, n = m + 1 := ⟨n - 1, by omega⟩
    have : i = 6 := by omega
    subst this
    exact br_t (nI_le (b := 6) (Nat.le_refl 6) (by decide)) K
  | succ d ih =>
    intro i z n hi hn K
    obtain ⟨n, rfl⟩ : ∃ m, n = m + 1 := ⟨n - 1, by omega⟩
    refine br_f (nI_ge (b := 6) (show i < 6 by omega) (by decide)) ?_
    have e6 : nI o * 6 + nI i = nI (o * 6 + i) := by
      show nI o * nI 6 + nI i = _
      rw [pk_mul, nI_add]
    rw [e6, nI_clamp (show o * 6 + i < 2 ^ 31 by omega), ho6 i (by omega), ac_bit _ (show r < 32 by omega), ac_mk_bt _ hr]
    refine ⟨vp_in_nI (by omega) (by decide), ?_⟩
    cases h : ac_A cl p c al wh t fl gr i o r with
    | true =>
      rw [ac_fo_t (f := fun pp => ac_A cl p c al wh t fl gr pp o r) h] at K
      exact br_t rfl (nm_e (nm_r (nI_1 i) (ih (i + 1) _ n (by omega) (by omega) K)))
    | false =>
      rw [ac_fo_f (f := fun pp => ac_A cl p c al wh t fl gr pp o r) h] at K
      exact br_f (by decide) (nm_r (nI_1 i) (ih (i + 1) _ n (by omega) (by omega) K))
theorem ac_xcount24 {pp r : Nat} (hp : pp < 6) (hr : r < 4) (hT : ac_T st p c al wh)
    (K : ∀ gA gD su pa pd oc wy, ac_C st cl p c al wh t fl gr su pa oc → post (nI (ac_cn (fun o => !decide (st o = 0) && ac_A cl p c al wh t fl gr pp o r) 16)) (gA, gD, st, (ac_xp p), cl, (ac_nn c), al, wh, (ac_mm t), fl, gr, su, pa, pd, oc, wy, bf)) :
    ∀ d i n gA gD su pa pd oc wy, i + d = 16 → d < n → ac_C st cl p c al wh t fl gr su pa oc → wX_count_24 post (nI pp) (nI r) n (nI (ac_cn (fun o => !decide (st o = 0) && ac_A cl p c al wh t fl gr pp o r) i)) (nI i) gA gD st (ac_xp p) cl (ac_nn c) al wh (ac_mm t) fl gr su pa pd oc wy bf := by
  intro d
  induction d with
  | zero =>
    intro i n gA gD su pa pd oc wy hi hn hC
    obtain ⟨n, rfl⟩ : ∃ m, n = m + 1 := ⟨n - 1, by omega⟩
    have : i = 16 := by omega
    subst this
    exact br_t (nI_le (b := 16) (Nat.le_refl 16) (by decide)) (K _ _ _ _ _ _ _ hC)
  | succ d ih =>
    intro i n gA gD su pa pd oc wy hi hn hC
    obtain ⟨n, rfl⟩ : ∃ m, n = m + 1 := ⟨n - 1, by omega⟩
    refine br_f (nI_ge (b := 16) (show i < 16 by omega) (by decide)) (ac_xmay (show i < 16 by omega) hp hr hT hC ?_)
    intro gA2 gD2 su2 pa2 pd2 oc2 wy2 hC2
    have ih := ih (i + 1) n gA2 gD2 su2 pa2 pd2 oc2 wy2 (by omega) (by omega) hC2
    dsimp only
    cases h : (!decide (st i = 0) && ac_A cl p c al wh t fl gr pp i r) with
    | true =>
      rw [ac_cn_t (show (fun o => !decide (st o = 0) && ac_A cl p c al wh t fl gr pp o r) i = true from h)] at ih
      exact br_f ac_b1 (nm_r (nI_1 _) (nm_r (nI_1 i) ih))
    | false =>
      rw [ac_cn_f (show (fun o => !decide (st o = 0) && ac_A cl p c al wh t fl gr pp o r) i = false from h)] at ih
      exact br_t rfl (nm_r (nI_1 i) ih)
theorem ac_xreach41 {J : Int32 → Int32 → Int32 → Int32 → Int32 → (Nat → Int32) → (Nat → Int32) → (Nat → Int32) → (Nat → Int32) → (Nat → Int32) → (Nat → Int32) → (Nat → Int32) → (Nat → Int32) → (Nat → Int32) → (Nat → Int32) → (Nat → Int32) → (Nat → Int32) → (Nat → Int32) → (Nat → Int32) → (Nat → Int32) → Prop}
    {pp i : Nat} {z0 : Int32} {H : Nat → Bool} (hp : pp < 6) (hT : ac_T st p c al wh) (hH : ∀ k, k < 16 → ¬ st k = 0 → k ≠ 0 → H k = (ac_A cl p c al wh t fl gr pp k 0 && H (p k)))
    (K : ∀ z gA gD su pa pd oc wy, ac_C st cl p c al wh t fl gr su pa oc → (∀ k, k < 16 → bt z k = true → ¬ st k = 0 ∧ H k = true) → (∀ k, k < 16 → bt z0 k = true → bt z k = true) → (∀ q, 1 ≤ q → q < 16 → ¬ st q = 0 → H q = true → bt z0 (p q) = true → bt z q = true) → J z (nI (ac_cn (bt z) 16)) (nI (i + 1)) gA gD st (ac_xp p) cl (ac_nn c) al wh (ac_mm t) fl gr su pa pd oc wy bf) :
    ∀ d k n z gA gD su pa pd oc wy, k + d = 16 → d < n → 1 ≤ k → ac_C st cl p c al wh t fl gr su pa oc → (∀ k, k < 16 → bt z k = true → ¬ st k = 0 ∧ H k = true) → (∀ k, k < 16 → bt z0 k = true → bt z k = true) → (∀ q, 1 ≤ q → q < k → ¬ st q = 0 → H q = true → bt z0 (p q) = true → bt z q = true) →
      wX_reach_41 post J (nI pp) (nI i) n z (nI (ac_cn (bt z) 16)) (nI k) gA gD st (ac_xp p) cl (ac_nn c) al wh (ac_mm t) fl gr su pa pd oc wy bf := by
  intro d
  induction d with
  | zero =>
    intro k n z gA gD su pa pd oc wy hk hn h1 hC hs hm hd
    obtain ⟨n, rfl⟩ : ∃ m, n = m + 1 := ⟨n - 1, by omega⟩
    have : k = 16 := by omega
    subst this
    exact br_t (nI_le (b := 16) (Nat.le_refl 16) (by decide)) (nm_r (nI_1 i) (K z _ _ _ _ _ _ _ hC hs hm hd))
  | succ d ih =>
    intro k n z gA gD su pa pd oc wy hk hn h1 hC hs hm hd
    obtain ⟨n, rfl⟩ : ∃ m, n = m + 1 := ⟨n - 1, by omega⟩
    have hk16 : k < 16 := by omega
    have hin : vp_in (nI k) 16 := vp_in_nI hk16 (by decide)
    have hpk := hT.1 k
    have skip : (¬ st k = 0 → H k = true → bt z0 (p k) = true → bt z k = true) → ∀ gA gD su pa pd oc wy, ac_C st cl p c al wh t fl gr su pa oc → ∀ y, y = nI k + 1 → wX_reach_41 post J (nI pp) (nI i) n z (nI (ac_cn (bt z) 16)) y gA gD st (ac_xp p) cl (ac_nn c) al wh (ac_mm t) fl gr su pa pd oc wy bf := by
      intro hq gA2 gD2 su2 pa2 pd2 oc2 wy2 hC2
      refine nm_r (nI_1 k) (ih (k + 1) n z _ _ _ _ _ _ _ (by omega) (by omega) (by omega) hC2 hs hm ?_)
      intro q q1 q2 q3 q4 q5
      by_cases e : q = k
      · subst e; exact hq q3 q4 q5
      · exact hd q q1 (by omega) q3 q4 q5
    have skip86 : (¬ st k = 0 → H k = true → bt z0 (p k) = true → bt z k = true) → wX_reach_86 post J (wX_reach_41 post J (nI pp) (nI i) n) (nI pp) z (nI (ac_cn (bt z) 16)) (nI i) (nI k) gA gD st (ac_xp p) cl (ac_nn c) al wh (ac_mm t) fl gr su pa pd oc wy bf := by
      intro hq
      unfold wX_reach_86
      unfold wX_reach_87
      exact br_t rfl (skip hq _ _ _ _ _ _ _ hC)
    refine br_f (nI_ge (b := 16) (show k < 16 by omega) (by decide)) ⟨hin, ?_⟩
    rw [nI_clamp (show k < 2 ^ 31 by omega), ac_xpn (show k ≠ 0 by omega), ac_bit0 _ (show k < 32 by omega), ac_bit _ (show p k < 32 by omega)]
    by_cases hst : st k = 0
    · exact br_t hst (skip86 (fun h => absurd hst h))
    · refine br_f hst ?_
      by_cases hb : bt z k = false
      · refine br_t hb ⟨hin, ?_⟩
        by_cases hbp : bt z (p k) = true
        · refine br_t hbp ?_
          unfold wX_reach_87
          refine br_f (by decide) (ac_xmay (r := 0) hk16 hp (by omega) hT hC ?_)
          intro gA2 gD2 su2 pa2 pd2 oc2 wy2 hC2
          dsimp only
          rw [decide_eq_false hst, Bool.not_false, Bool.true_and]
          have hHk := hH k hk16 hst (by omega)
          cases h : ac_A cl p c al wh t fl gr pp k 0 with
          | false =>
            refine br_t rfl (skip ?_ _ _ _ _ _ _ _ hC2)
            intro _ h2 _
            rw [hHk, h, Bool.false_and] at h2
            exact absurd h2 (by decide)
          | true =>
            have hins : ∀ q, q < 16 → bt (z ||| ((1 : Int32) <<< (nI k &&& 31))) q = (bt z q || decide (q = k)) := fun q hq => ac_bt_ins z (by omega) (by omega)
            have hcn : ac_cn (bt z) 16 + 1 = ac_cn (bt (z ||| ((1 : Int32) <<< (nI k &&& 31)))) 16 := by
              have e1 := ac_cn_ins (f := bt z) (g := fun q => bt z q || decide (q = k)) (j := k) hb (by show (bt z k || decide (k = k)) = true; rw [decide_eq_true rfl, Bool.or_true]) (by
                intro q hq
                show (bt z q || decide (q = k)) = bt z q
                rw [decide_eq_false hq, Bool.or_false]) 16 hk16
              rw [← e1]
              exact ac_cn_congr 16 (fun q hq => (hins q hq).symm)
            refine br_f ac_b1 (nm_e (nm_r (e' := nI (ac_cn (bt (z ||| ((1 : Int32) <<< (nI k &&& 31)))) 16)) (by rw [nI_1, hcn]) (nm_r (nI_1 k) ?_)))
            refine ih (k + 1) n _ _ _ _ _ _ _ _ (by omega) (by omega) (by omega) hC2 ?_ ?_ ?_
            · intro q hq h2
              rw [hins q hq] at h2
              by_cases e : q = k
              · subst e
                refine ⟨hst, ?_⟩
                rw [hHk, h, (hs (p q) hpk hbp).2]; rfl
              · rw [decide_eq_false e, Bool.or_false] at h2
                exact hs q hq h2
            · intro q hq h2
              rw [hins q hq, hm q hq h2]; rfl
            · intro q q1 q2 q3 q4 q5
              rw [hins q (by omega)]
              by_cases e : q = k
              · rw [decide_eq_true e, Bool.or_true]
              · rw [hd q q1 (by omega) q3 q4 q5]; rfl
        · exact br_f hbp (skip86 (fun _ _ h => absurd (hm _ hpk h) hbp))
      · exact br_f hb (skip86 (fun _ _ _ => (Bool.eq_false_or_eq_true (bt z k)).resolve_right hb))
theorem ac_xreach31 {pp : Nat} {H : Nat → Bool} (hp : pp < 6) (hT : ac_T st p c al wh) (hH : ∀ k, k < 16 → ¬ st k = 0 → k ≠ 0 → H k = (ac_A cl p c al wh t fl gr pp k 0 && H (p k)))
    (K : ∀ gA gD su pa pd oc wy, ac_C st cl p c al wh t fl gr su pa oc → post (nI (ac_cn (fun o => !decide (st o = 0) && H o) 16)) (gA, gD, st, (ac_xp p), cl, (ac_nn c), al, wh, (ac_mm t), fl, gr, su, pa, pd, oc, wy, bf)) :
    ∀ d i n z gA gD su pa pd oc wy, i + d = 16 → d < n → ac_C st cl p c al wh t fl gr su pa oc → (∀ k, k < 16 → bt z k = true → ¬ st k = 0 ∧ H k = true) → (∀ k, k < 16 → ¬ st k = 0 → H k = true → ac_up p i k = 0 → bt z k = true) →
      wX_reach_31 post (nI pp) n z (nI (ac_cn (bt z) 16)) (nI i) gA gD st (ac_xp p) cl (ac_nn c) al wh (ac_mm t) fl gr su pa pd oc wy bf := by
  intro d
  induction d with
  | zero =>
    intro i n z gA gD su pa pd oc wy hi hn hC hs hc
    obtain ⟨n, rfl⟩ : ∃ m, n = m + 1 := ⟨n - 1, by omega⟩
    have : i = 16 := by omega
    subst this
    have e : ac_cn (bt z) 16 = ac_cn (fun o => !decide (st o = 0) && H o) 16 := by
      refine ac_cn_congr 16 (fun q hq => ?_)
      show bt z q = (!decide (st q = 0) && H q)
      cases hb : bt z q with
      | true =>
        obtain ⟨h1, h2⟩ := hs q hq hb
        rw [decide_eq_false h1, h2]; rfl
      | false =>
        by_cases hst : st q = 0
        · rw [decide_eq_true hst]; rfl
        · cases hh : H q with
          | false => rw [Bool.and_false]
          | true =>
            have := hc q hq hst hh (ac_up_ge hT.2.1 (ac_T15 hT hq hst) (by omega))
            rw [hb] at this
            exact absurd this (by decide)
    refine br_t (nI_le (b := 16) (Nat.le_refl 16) (by decide)) ?_
    rw [e]
    exact K _ _ _ _ _ _ _ hC
  | succ d ih =>
    intro i n z gA gD su pa pd oc wy hi hn hC hs hc
    obtain ⟨n, rfl⟩ : ∃ m, n = m + 1 := ⟨n - 1, by omega⟩
    refine br_f (nI_ge (b := 16) (show i < 16 by omega) (by decide)) ⟨16, ?_⟩
    refine ac_xreach41 (i := i) (z0 := z) (H := H) hp hT hH ?_ 15 1 16 z _ _ _ _ _ _ _ (by omega) (by omega) (by omega) hC hs (fun k _ h => h) (fun q q1 q2 => absurd q2 (by omega))
    intro z' gA2 gD2 su2 pa2 pd2 oc2 wy2 hC2 hs' hm' hd'
    refine ih (i + 1) n z' _ _ _ _ _ _ _ (by omega) (by omega) hC2 hs' ?_
    intro k hk h1 h2 h3
    by_cases k0 : k = 0
    · subst k0
      exact hm' 0 (by omega) (hc 0 (by omega) h1 h2 (ac_up_zero hT.2.1 i))
    · have e := hH k hk h1 k0
      rw [h2] at e
      have e2 : H (p k) = true := by
        cases hh : H (p k) with
        | true => rfl
        | false => rw [hh, Bool.and_false] at e; exact absurd e (by decide)
      exact hd' k (by omega) hk h1 h2 (hc (p k) (hT.1 k) (hT.2.2.2.1 k hk h1).1 e2 h3)
theorem ac_cn_b (b : Bool) : nI (ac_cn (bt (ac_b b)) 16) = ac_b b := by cases b <;> decide +kernel
theorem ac_bt_b : ∀ k, k < 16 → ∀ b : Bool, bt (ac_b b) k = (b && decide (k = 0)) := by decide +kernel
theorem ac_xreach {pp : Nat} (hp : pp < 6) (hT : ac_T st p c al wh) (hC : ac_C st cl p c al wh t fl gr su pa oc)
    (K : ∀ gA gD su pa pd oc wy, ac_C st cl p c al wh t fl gr su pa oc → post (nI (ac_cn (fun o => !decide (st o = 0) && ac_cg (fun k => ac_A cl p c al wh t fl gr pp k 0) p 16 o) 16)) (gA, gD, st, (ac_xp p), cl, (ac_nn c), al, wh, (ac_mm t), fl, gr, su, pa, pd, oc, wy, bf)) : wpX_reach post (gA, gD, st, (ac_xp p), cl, (ac_nn c), al, wh, (ac_mm t), fl, gr, su, pa, pd, oc, wy, bf) (nI pp) := by
  unfold wpX_reach
  dsimp only
  refine ac_xbp hp (br_t rfl (ac_xmay (o := 0) (r := 0) (by omega) hp (by omega) hT hC ?_))
  intro gA2 gD2 su2 pa2 pd2 oc2 wy2 hC2
  dsimp only
  have hst0 := hT.2.2.1
  rw [decide_eq_false hst0, Bool.not_false, Bool.true_and]
  have hgo : ∀ b : Bool, ac_A cl p c al wh t fl gr pp 0 0 = b → ∃ n31 : Nat, wX_reach_31 post (nI pp) n31 (ac_b b) (ac_b b) 0 gA2 gD2 st (ac_xp p) cl (ac_nn c) al wh (ac_mm t) fl gr su2 pa2 pd2 oc2 wy2 bf := by
    intro b hb
    refine ⟨17, ?_⟩
    have h := ac_xreach31 (H := ac_cg (fun k => ac_A cl p c al wh t fl gr pp k 0) p 16) hp hT (fun k hk h1 h2 => ac_cg_rec (ac_T15 hT hk h1) h2) K 16 0 17 (ac_b b) gA2 gD2 su2 pa2 pd2 oc2 wy2 (by omega) (by omega) hC2 ?_ ?_
    · rw [ac_cn_b] at h
      exact h
    · intro k hk h
      rw [ac_bt_b k hk b] at h
      have hb1 : b = true := by
        cases b with
        | true => rfl
        | false => exact absurd h (by simp)
      have hk0 : k = 0 := by
        rw [hb1, Bool.true_and] at h
        exact of_decide_eq_true h
      subst hk0
      refine ⟨hst0, ?_⟩
      rw [ac_cg_0, ← hb1, ← hb]
    · intro k hk h1 h2 h3
      have hk0 : k = 0 := h3
      subst hk0
      rw [ac_cg_0] at h2
      rw [ac_bt_b 0 (by omega) b, ← hb, h2]; rfl
  cases h : ac_A cl p c al wh t fl gr pp 0 0 with
  | true => exact br_f ac_b1 (hgo true h)
  | false => exact br_t rfl (hgo false h)
end
end
section
/-! stir, both sides -/
def ac_fl (cl : Nat → Int32) (o : Nat) : Int32 := if cl o = 0 then 1 else 0
theorem ac_vnf (cl : Nat → Int32) (o : Nat) : vp_nar .boolean (ac_fl cl o) = ac_fl cl o := by
  unfold ac_fl
  by_cases h : cl o = 0
  · rw [if_pos h]; rfl
  · rw [if_neg h]; rfl
theorem ac_flt {cl : Nat → Int32} {o : Nat} (h : cl o = 0) : ac_fl cl o = 1 := if_pos h
theorem ac_flf {cl : Nat → Int32} {o : Nat} (h : ¬ cl o = 0) : ac_fl cl o = 0 := if_neg h
section
variable {st cl al wh fl gr yb : Nat → Int32} {p c : Nat → Nat} {t : Nat → Nat → Bool} {post : Int32 → SY → Prop}
theorem ac_yio {q : Int32 → Prop} {o : Nat} (ho : o < 16) (K : q 1) : wpY_isObject q (st, (ac_nn p), cl, gr, (ac_nn c), al, wh, (ac_mm t), fl, yb) (nI o) := by
  unfold wpY_isObject
  dsimp only
  exact br_f (nI_pos (by omega)) (br_f (nI_nlt (a := 15) (b := o) (by omega) (by omega)) K)
theorem ac_lt_of {v : Int32} {n : Nat} (hn : n < 2 ^ 30) (h0 : ¬ v < 0) (h : nI (n + 1) ≤ v) : nI n < v := by
  obtain ⟨j, hj, rfl⟩ := nI_of h0
  rw [nI_leI (by omega) hj] at h
  exact nI_lt (by omega) hj
theorem ac_yion {q : Int32 → Prop} {v : Int32} (hv : v < 0 ∨ nI 16 ≤ v) (K : q 0) : wpY_isObject q (st, (ac_nn p), cl, gr, (ac_nn c), al, wh, (ac_mm t), fl, yb) v := by
  unfold wpY_isObject
  dsimp only
  by_cases h : v < 0
  · exact br_t h K
  · exact br_f h (br_t (ac_lt_of (n := 15) (by omega) h (hv.resolve_left h)) K)
theorem ac_yip {q : Int32 → Prop} {o : Nat} (ho : o < 6) (K : q 1) : wpY_isPerson q (st, (ac_nn p), cl, gr, (ac_nn c), al, wh, (ac_mm t), fl, yb) (nI o) := by
  unfold wpY_isPerson
  dsimp only
  exact br_f (nI_pos (by omega)) (br_f (nI_nlt (a := 5) (b := o) (by omega) (by omega)) K)
theorem ac_yipn {q : Int32 → Prop} {v : Int32} (hv : v < 0 ∨ nI 6 ≤ v) (K : q 0) : wpY_isPerson q (st, (ac_nn p), cl, gr, (ac_nn c), al, wh, (ac_mm t), fl, yb) v := by
  unfold wpY_isPerson
  dsimp only
  by_cases h : v < 0
  · exact br_t h K
  · exact br_f h (br_t (ac_lt_of (n := 5) (by omega) h (hv.resolve_left h)) K)
theorem ac_yir {q : Int32 → Prop} {o : Nat} (ho : o < 4) (K : q 1) : wpY_isRight q (st, (ac_nn p), cl, gr, (ac_nn c), al, wh, (ac_mm t), fl, yb) (nI o) := by
  unfold wpY_isRight
  dsimp only
  exact br_f (nI_pos (by omega)) (br_f (nI_nlt (a := 3) (b := o) (by omega) (by omega)) K)
theorem ac_yirn {q : Int32 → Prop} {v : Int32} (hv : v < 0 ∨ nI 4 ≤ v) (K : q 0) : wpY_isRight q (st, (ac_nn p), cl, gr, (ac_nn c), al, wh, (ac_mm t), fl, yb) v := by
  unfold wpY_isRight
  dsimp only
  by_cases h : v < 0
  · exact br_t h K
  · exact br_f h (br_t (ac_lt_of (n := 3) (by omega) h (hv.resolve_left h)) K)
theorem ac_yrights {post : Int32 → Prop} {o pp : Nat} (ho : o < 16) (hp : pp < 6) (hT : ac_T st p c al wh) (K : post (ac_R st cl p c al wh t fl gr o pp)) : wpY_rights post (st, (ac_nn p), cl, gr, (ac_nn c), al, wh, (ac_mm t), fl, yb) (nI o) (nI pp) := by
  unfold wpY_rights
  dsimp only
  refine ac_yio ho (br_f (by decide) (ac_yip hp (br_f (by decide) ⟨vp_in_nI ho (by decide), ?_⟩)))
  rw [nI_clamp (show o < 2 ^ 31 by omega)]
  by_cases hs : st o = 0
  · rw [show ac_R st cl p c al wh t fl gr o pp = -3 from if_pos hs] at K
    exact br_t hs K
  · rw [show ac_R st cl p c al wh t fl gr o pp = ac_mk (ac_A cl p c al wh t fl gr pp o) from if_neg hs, ← ac_fo_mk] at K
    exact br_f hs ⟨5, ac_yrights35 ho hT 4 0 0 5 (by omega) (by omega) K⟩
theorem ac_div6 {i : Nat} (h : i < 96) : nI i / 6 = nI (i / 6) := pk_div (d := 6) (by omega) (by omega) (by omega)
theorem ac_rem6 {i : Nat} (h : i < 96) : nI i - nI i / 6 * 6 = nI (i % 6) := pk_rem (d := 6) (by omega) (by omega) (by omega)
theorem ac_ystir78 {o : Nat} {F : Nat → Bool} (ho : o < 16) (hT : ac_T st p c al wh) (hF : ∀ m, m < 96 → F m = decide (¬ yb m = ac_R st cl p c al wh t fl gr (m / 6) (m % 6)))
    (K : post (nI (ac_cn F 96)) (st, (ac_nn p), (upd cl o (ac_fl cl o)), gr, (ac_nn c), al, wh, (ac_mm t), fl, yb)) :
    ∀ d i n, i + d = 96 → d < n → wY_stir_78 post (nI o) st (ac_nn p) cl gr (ac_nn c) al wh (ac_mm t) fl yb n (nI (ac_cn F i)) (nI i) := by
  intro d
  induction d with
  | zero =>
    intro i n hi hn
    obtain ⟨n, rfl⟩ : ∃ m, n = m + 1 := ⟨n - 1, by omega⟩
    have : i = 96 := by omega
    subst this
    refine br_t (nI_le (b := 96) (Nat.le_refl 96) (by decide)) ⟨vp_in_nI ho (by decide), ?_⟩
    rw [nI_clamp (show o < 2 ^ 31 by omega)]
    by_cases h : cl o = 0
    · rw [ac_flt h] at K
      exact br_t h ⟨vp_in_nI ho (by decide), nm_e K⟩
    · rw [ac_flf h] at K
      exact br_f h ⟨vp_in_nI ho (by decide), nm_e K⟩
  | succ d ih =>
    intro i n hi hn
    obtain ⟨n, rfl⟩ : ∃ m, n = m + 1 := ⟨n - 1, by omega⟩
    have ih := ih (i + 1) n (by omega) (by omega)
    have h6 : ¬ (6 : Int32) = 0 := by decide
    refine br_f (nI_ge (b := 96) (show i < 96 by omega) (by decide)) ⟨vp_in_nI (by omega) (by decide), h6, h6, ?_⟩
    rw [ac_rem6 (show i < 96 by omega), ac_div6 (show i < 96 by omega)]
    refine ac_yrights (by omega) (by omega) hT ?_
    rw [nI_clamp (show i < 2 ^ 31 by omega)]
    have hFi := hF i (by omega)
    by_cases h : yb i = ac_R st cl p c al wh t fl gr (i / 6) (i % 6)
    · rw [decide_eq_false (fun z => z h)] at hFi
      rw [ac_cn_f hFi] at ih
      exact br_t h (nm_r (nI_1 i) ih)
    · rw [decide_eq_true h] at hFi
      rw [ac_cn_t hFi] at ih
      exact br_f h (nm_r (nI_1 _) (nm_r (nI_1 i) ih))
theorem ac_ystir24 {o : Nat} (ho : o < 16) (hT : ac_T st p c al wh)
    (K : ∀ yb, (∀ m, m < 96 → yb m = ac_R st cl p c al wh t fl gr (m / 6) (m % 6)) → ∃ n78, wY_stir_78 post (nI o) st (ac_nn p) (upd cl o (ac_fl cl o)) gr (ac_nn c) al wh (ac_mm t) fl yb n78 0 0) :
    ∀ d i n yb, i + d = 96 → d < n → (∀ m, m < i → yb m = ac_R st cl p c al wh t fl gr (m / 6) (m % 6)) → wY_stir_24 post (nI o) n (nI i) st (ac_nn p) cl gr (ac_nn c) al wh (ac_mm t) fl yb := by
  intro d
  induction d with
  | zero =>
    intro i n yb hi hn hb
    obtain ⟨n, rfl⟩ : ∃ m, n = m + 1 := ⟨n - 1, by omega⟩
    have : i = 96 := by omega
    subst this
    refine br_t (nI_le (b := 96) (Nat.le_refl 96) (by decide)) ⟨vp_in_nI ho (by decide), ?_⟩
    rw [nI_clamp (show o < 2 ^ 31 by omega)]
    have K := K yb hb
    by_cases h : cl o = 0
    · rw [ac_flt h] at K
      exact br_t h ⟨vp_in_nI ho (by decide), nm_e K⟩
    · rw [ac_flf h] at K
      exact br_f h ⟨vp_in_nI ho (by decide), nm_e K⟩
  | succ d ih =>
    intro i n yb hi hn hb
    obtain ⟨n, rfl⟩ : ∃ m, n = m + 1 := ⟨n - 1, by omega⟩
    have h6 : ¬ (6 : Int32) = 0 := by decide
    refine br_f (nI_ge (b := 96) (show i < 96 by omega) (by decide)) ⟨h6, h6, ?_⟩
    rw [ac_rem6 (show i < 96 by omega), ac_div6 (show i < 96 by omega)]
    refine ac_yrights (by omega) (by omega) hT ?_
    refine ⟨vp_in_nI (by omega) (by decide), ?_⟩
    rw [nI_clamp (show i < 2 ^ 31 by omega)]
    refine nm_e (nm_r (nI_1 i) (ih (i + 1) n _ (by omega) (by omega) ?_))
    intro m hm
    by_cases e : m = i
    · rw [e, pk_us]
    · rw [pk_un e]; exact hb m (by omega)
theorem ac_ystir {o : Nat} {F : Nat → Bool} (ho : o < 16) (hs : ¬ st o = 0) (hT : ac_T st p c al wh) (hF : ∀ m, m < 96 → F m = decide (¬ ac_R st cl p c al wh t fl gr (m / 6) (m % 6) = ac_R st (upd cl o (ac_fl cl o)) p c al wh t fl gr (m / 6) (m % 6)))
    (K : ∀ yb, post (nI (ac_cn F 96)) (st, (ac_nn p), (upd (upd cl o (ac_fl cl o)) o (ac_fl (upd cl o (ac_fl cl o)) o)), gr, (ac_nn c), al, wh, (ac_mm t), fl, yb)) : wpY_stir post (st, (ac_nn p), cl, gr, (ac_nn c), al, wh, (ac_mm t), fl, yb) (nI o) := by
  unfold wpY_stir
  dsimp only
  refine ac_yio ho (br_f (by decide) ⟨vp_in_nI ho (by decide), ?_⟩)
  rw [nI_clamp (show o < 2 ^ 31 by omega)]
  refine br_f hs ⟨97, ac_ystir24 ho hT ?_ 96 0 97 yb (by omega) (by omega) (fun m h => absurd h (by omega))⟩
  intro yb2 hb
  refine ⟨97, ac_ystir78 (F := F) ho hT ?_ (K yb2) 96 0 97 (by omega) (by omega)⟩
  intro m hm
  rw [hF m hm, hb m hm]
end
section
variable {gA gD : Int32} {st cl al wh fl gr su pa pd oc wy bf : Nat → Int32} {p c : Nat → Nat} {t : Nat → Nat → Bool}
theorem ac_xkeep2 {post : SX → Prop} {k : Nat} (hk : k < 16) (K : ∀ bf', (∀ q, q < 6 → bf' (k * 6 + q) = oc (k * 6 + q)) → (∀ j, (j < k * 6 ∨ k * 6 + 6 ≤ j) → bf' j = bf j) → post (gA, gD, st, (ac_xp p), cl, (ac_nn c), al, wh, (ac_mm t), fl, gr, su, pa, pd, oc, wy, bf')) :
    ∀ d i n bf2, i + d = 6 → d < n → (∀ q, q < i → bf2 (k * 6 + q) = oc (k * 6 + q)) → (∀ j, (j < k * 6 ∨ k * 6 + 6 ≤ j) → bf2 j = bf j) → wX_keep_2 post (nI k) gA gD n (nI i) st (ac_xp p) cl (ac_nn c) al wh (ac_mm t) fl gr su pa pd oc wy bf2 := by
  intro d
  induction d with
  | zero =>
    intro i n bf2 hi hn h1 h2
    obtain ⟨n, rfl⟩ : ∃ m, n = m + 1 := ⟨n - 1, by omega⟩
    have : i = 6 := by omega
    subst this
    exact br_t (nI_le (b := 6) (Nat.le_refl 6) (by decide)) (K bf2 h1 h2)
  | succ d ih =>
    intro i n bf2 hi hn h1 h2
    obtain ⟨n, rfl⟩ : ∃ m, n = m + 1 := ⟨n - 1, by omega⟩
    have e6 : nI k * 6 + nI i = nI (k * 6 + i) := by
      show nI k * nI 6 + nI i = _
      rw [pk_mul, nI_add]
    have hin : vp_in (nI (k * 6 + i)) 96 := vp_in_nI (by omega) (by decide)
    refine br_f (nI_ge (b := 6) (show i < 6 by omega) (by decide)) ?_
    rw [e6, nI_clamp (show k * 6 + i < 2 ^ 31 by omega)]
    refine ⟨hin, hin, nm_e (nm_r (nI_1 i) (ih (i + 1) n _ (by omega) (by omega) ?_ ?_))⟩
    · intro q hq
      by_cases e : q = i
      · rw [e, pk_us]
      · rw [pk_un (by omega)]; exact h1 q (by omega)
    · intro j hj
      rw [pk_un (by omega)]; exact h2 j hj
theorem ac_xkeep {post : SX → Prop} {k : Nat} (hk : k < 16) (K : ∀ bf', (∀ q, q < 6 → bf' (k * 6 + q) = oc (k * 6 + q)) → (∀ j, (j < k * 6 ∨ k * 6 + 6 ≤ j) → bf' j = bf j) → post (gA, gD, st, (ac_xp p), cl, (ac_nn c), al, wh, (ac_mm t), fl, gr, su, pa, pd, oc, wy, bf')) : wpX_keep post (gA, gD, st, (ac_xp p), cl, (ac_nn c), al, wh, (ac_mm t), fl, gr, su, pa, pd, oc, wy, bf) (nI k) := by
  unfold wpX_keep
  dsimp only
  exact ⟨7, ac_xkeep2 hk K 6 0 7 bf (by omega) (by omega) (fun q h => absurd h (by omega)) (fun _ _ => rfl)⟩
theorem ac_xdiff4 {post : Int32 → Prop} {k : Nat} (hk : k < 16) (K : post (nI (ac_cn (fun q => decide (¬ bf (k * 6 + q) = oc (k * 6 + q))) 6))) :
    ∀ d i n, i + d = 6 → d < n → wX_differences_4 post (nI k) gA gD st (ac_xp p) cl (ac_nn c) al wh (ac_mm t) fl gr su pa pd oc wy bf n (nI (ac_cn (fun q => decide (¬ bf (k * 6 + q) = oc (k * 6 + q))) i)) (nI i) := by
  intro d
  induction d with
  | zero =>
    intro i n hi hn
    obtain ⟨n, rfl⟩ : ∃ m, n = m + 1 := ⟨n - 1, by omega⟩
    have : i = 6 := by omega
    subst this
    exact br_t (nI_le (b := 6) (Nat.le_refl 6) (by decide)) K
  | succ d ih =>
    intro i n hi hn
    obtain ⟨n, rfl⟩ : ∃ m, n = m + 1 := ⟨n - 1, by omega⟩
    have ih := ih (i + 1) n (by omega) (by omega)
    have e6 : nI k * 6 + nI i = nI (k * 6 + i) := by
      show nI k * nI 6 + nI i = _
      rw [pk_mul, nI_add]
    have hin : vp_in (nI (k * 6 + i)) 96 := vp_in_nI (by omega) (by decide)
    refine br_f (nI_ge (b := 6) (show i < 6 by omega) (by decide)) ?_
    rw [e6, nI_clamp (show k * 6 + i < 2 ^ 31 by omega)]
    refine ⟨hin, hin, ?_⟩
    by_cases h : bf (k * 6 + i) = oc (k * 6 + i)
    · rw [ac_cn_f (show (fun q => decide (¬ bf (k * 6 + q) = oc (k * 6 + q))) i = false from decide_eq_false (fun z => z h))] at ih
      exact br_t h (nm_r (nI_1 i) ih)
    · rw [ac_cn_t (show (fun q => decide (¬ bf (k * 6 + q) = oc (k * 6 + q))) i = true from decide_eq_true h)] at ih
      exact br_f h (nm_r (nI_1 _) (nm_r (nI_1 i) ih))
theorem ac_xdiff {post : Int32 → Prop} {k : Nat} (hk : k < 16) (K : post (nI (ac_cn (fun q => decide (¬ bf (k * 6 + q) = oc (k * 6 + q))) 6))) : wpX_differences post (gA, gD, st, (ac_xp p), cl, (ac_nn c), al, wh, (ac_mm t), fl, gr, su, pa, pd, oc, wy, bf) (nI k) := by
  unfold wpX_differences
  dsimp only
  exact ⟨7, ac_xdiff4 hk K 6 0 7 (by omega) (by omega)⟩
theorem ac_xstir148 {post : Int32 → SX → Prop} {o : Nat} {x3 : Int32} (ho : o < 16) (hs : ¬ st o = 0) (hT : ac_T st p c al wh) (hC : ac_C st cl p c al wh t fl gr su pa oc)
    (K : ∀ gA gD su pa pd oc wy bf, ac_C st (upd cl o (ac_fl cl o)) p c al wh t fl gr su pa oc → post x3 (gA, gD, st, (ac_xp p), (upd cl o (ac_fl cl o)), (ac_nn c), al, wh, (ac_mm t), fl, gr, su, pa, pd, oc, wy, bf)) : wX_stir_148 post (nI o) x3 (ac_fl cl o) (nI o) gA gD st (ac_xp p) cl (ac_nn c) al wh (ac_mm t) fl gr su pa pd oc wy bf := by
  unfold wX_stir_148
  refine ⟨vp_in_nI ho (by decide), ?_⟩
  rw [nI_clamp (show o < 2 ^ 31 by omega), ac_vnf]
  refine nm_e (ac_xdoubt ho hs hT ?_)
  intro su2 hD
  exact K _ _ _ _ _ _ _ _ (ac_C_doubt hT.2.2.2.2.1 (fun x hx => ⟨pk_un hx, rfl, rfl, fun _ _ => ⟨rfl, rfl, rfl, rfl⟩⟩) hC hD)
theorem ac_xstir91 {post : Int32 → SX → Prop} {o : Nat} {z : Int32} {F : Nat → Bool} (ho : o < 16) (hs : ¬ st o = 0) (hT : ac_T st p c al wh) (hz : ac_Sub st p o z)
    (hF1 : ∀ k, k < 16 → bt z k = true → ∀ q, q < 6 → F (k * 6 + q) = decide (¬ bf (k * 6 + q) = ac_mk (ac_A cl p c al wh t fl gr q k))) (hF0 : ∀ k, k < 16 → bt z k = false → ∀ q, q < 6 → F (k * 6 + q) = false)
    (K : ∀ gA gD su pa pd oc wy bf, ac_C st (upd cl o (ac_fl cl o)) p c al wh t fl gr su pa oc → post (nI (ac_cn F 96)) (gA, gD, st, (ac_xp p), (upd cl o (ac_fl cl o)), (ac_nn c), al, wh, (ac_mm t), fl, gr, su, pa, pd, oc, wy, bf)) :
    ∀ d i n gA gD su pa pd oc wy, i + d = 16 → d < n → ac_C st cl p c al wh t fl gr su pa oc → wX_stir_91 post (nI o) z n (nI (ac_cn F (i * 6))) (nI i) gA gD st (ac_xp p) cl (ac_nn c) al wh (ac_mm t) fl gr su pa pd oc wy bf := by
  intro d
  induction d with
  | zero =>
    intro i n gA gD su pa pd oc wy hi hn hC
    obtain ⟨n, rfl⟩ : ∃ m, n = m + 1 := ⟨n - 1, by omega⟩
    have : i = 16 := by omega
    subst this
    have h148 := ac_xstir148 (post := post) (x3 := nI (ac_cn F 96)) (gA := gA) (gD := gD) (pd := pd) (wy := wy) (bf := bf) ho hs hT hC K
    refine br_t (nI_le (b := 16) (Nat.le_refl 16) (by decide)) ⟨vp_in_nI ho (by decide), ?_⟩
    rw [nI_clamp (show o < 2 ^ 31 by omega)]
    by_cases h : cl o = 0
    · rw [ac_flt h] at h148
      exact br_t h h148
    · rw [ac_flf h] at h148
      exact br_f h h148
  | succ d ih =>
    intro i n gA gD su pa pd oc wy hi hn hC
    obtain ⟨n, rfl⟩ : ∃ m, n = m + 1 := ⟨n - 1, by omega⟩
    have hi16 : i < 16 := by omega
    have ecn : ac_cn F ((i + 1) * 6) = ac_cn F (i * 6) + ac_cn (fun q => F (i * 6 + q)) 6 := by
      rw [show (i + 1) * 6 = i * 6 + 6 by omega, ac_cn_add]
    refine br_f (nI_ge (b := 16) (show i < 16 by omega) (by decide)) ?_
    rw [ac_bit _ (show i < 32 by omega)]
    by_cases hb : bt z i = true
    · have hst := ((hz i hi16).mp hb).1
      refine br_t hb (ac_xensure hi16 hst hT hC ?_)
      intro gA2 gD2 su2 pa2 pd2 oc2 wy2 hC2 hsu2
      refine ac_xdiff hi16 ?_
      have ih := ih (i + 1) n gA2 gD2 su2 pa2 pd2 oc2 wy2 (by omega) (by omega) hC2
      have e1 : ac_cn (fun q => F (i * 6 + q)) 6 = ac_cn (fun q => decide (¬ bf (i * 6 + q) = oc2 (i * 6 + q))) 6 := by
        refine ac_cn_congr 6 (fun q hq => ?_)
        show F (i * 6 + q) = decide (¬ bf (i * 6 + q) = oc2 (i * 6 + q))
        rw [hF1 i hi16 hb q hq, (hC2 i hi16 hst hsu2 q hq).2]
      rw [ecn, e1] at ih
      exact nm_r (nI_add _ _) (nm_r (nI_1 i) ih)
    · have hbf : bt z i = false := Bool.eq_false_iff.mpr hb
      have ih := ih (i + 1) n gA gD su pa pd oc wy (by omega) (by omega) hC
      have e1 : ac_cn (fun q => F (i * 6 + q)) 6 = 0 := by
        rw [← ac_cn_zero 6]
        exact ac_cn_congr 6 (fun q hq => hF0 i hi16 hbf q hq)
      rw [ecn, e1, Nat.add_zero] at ih
      exact br_f hb (nm_r (nI_1 i) ih)
theorem ac_xstir30 {post : Int32 → SX → Prop} {o : Nat} {z : Int32} (ho : o < 16) (hT : ac_T st p c al wh) (hz : ac_Sub st p o z)
    (K : ∀ gA gD su pa pd oc wy bf, ac_C st cl p c al wh t fl gr su pa oc → (∀ k, k < 16 → bt z k = true → ∀ q, q < 6 → bf (k * 6 + q) = ac_mk (ac_A cl p c al wh t fl gr q k)) → wX_stir_80 post (nI o) z (ac_fl cl o) (nI o) gA gD st (ac_xp p) cl (ac_nn c) al wh (ac_mm t) fl gr su pa pd oc wy bf) :
    ∀ d i n gA gD su pa pd oc wy bf, i + d = 16 → d < n → ac_C st cl p c al wh t fl gr su pa oc → (∀ k, k < i → bt z k = true → ∀ q, q < 6 → bf (k * 6 + q) = ac_mk (ac_A cl p c al wh t fl gr q k)) → wX_stir_30 post (nI o) z n (nI i) gA gD st (ac_xp p) cl (ac_nn c) al wh (ac_mm t) fl gr su pa pd oc wy bf := by
  intro d
  induction d with
  | zero =>
    intro i n gA gD su pa pd oc wy bf hi hn hC hb
    obtain ⟨n, rfl⟩ : ∃ m, n = m + 1 := ⟨n - 1, by omega⟩
    have : i = 16 := by omega
    subst this
    have K := K gA gD su pa pd oc wy bf hC hb
    refine br_t (nI_le (b := 16) (Nat.le_refl 16) (by decide)) ⟨vp_in_nI ho (by decide), ?_⟩
    rw [nI_clamp (show o < 2 ^ 31 by omega)]
    by_cases h : cl o = 0
    · rw [ac_flt h] at K
      exact br_t h K
    · rw [ac_flf h] at K
      exact br_f h K
  | succ d ih =>
    intro i n gA gD su pa pd oc wy bf hi hn hC hb
    obtain ⟨n, rfl⟩ : ∃ m, n = m + 1 := ⟨n - 1, by omega⟩
    have hi16 : i < 16 := by omega
    refine br_f (nI_ge (b := 16) (show i < 16 by omega) (by decide)) ?_
    rw [ac_bit _ (show i < 32 by omega)]
    by_cases hbi : bt z i = true
    · have hst := ((hz i hi16).mp hbi).1
      refine br_t hbi (ac_xensure hi16 hst hT hC ?_)
      intro gA2 gD2 su2 pa2 pd2 oc2 wy2 hC2 hsu2
      refine ac_xkeep hi16 ?_
      intro bf2 h1 h2
      refine nm_r (nI_1 i) (ih (i + 1) n _ _ _ _ _ _ _ _ (by omega) (by omega) hC2 ?_)
      intro k hk hbk q hq
      by_cases e : k = i
      · subst e
        rw [h1 q hq, (hC2 k hi16 hst hsu2 q hq).2]
      · rw [h2 (k * 6 + q) (by omega)]
        exact hb k (by omega) hbk q hq
    · refine br_f hbi (nm_r (nI_1 i) (ih (i + 1) n _ _ _ _ _ _ _ _ (by omega) (by omega) hC ?_))
      intro k hk hbk q hq
      by_cases e : k = i
      · subst e; exact absurd hbk hbi
      · exact hb k (by omega) hbk q hq
theorem ac_xstir {post : Int32 → SX → Prop} {o : Nat} {F : Nat → Bool} (ho : o < 16) (hs : ¬ st o = 0) (hT : ac_T st p c al wh) (hC : ac_C st cl p c al wh t fl gr su pa oc)
    (hF : ∀ m, m < 96 → F m = decide (¬ ac_R st cl p c al wh t fl gr (m / 6) (m % 6) = ac_R st (upd cl o (ac_fl cl o)) p c al wh t fl gr (m / 6) (m % 6)))
    (K : ∀ gA gD su pa pd oc wy bf, ac_C st (upd (upd cl o (ac_fl cl o)) o (ac_fl (upd cl o (ac_fl cl o)) o)) p c al wh t fl gr su pa oc → post (nI (ac_cn F 96)) (gA, gD, st, (ac_xp p), (upd (upd cl o (ac_fl cl o)) o (ac_fl (upd cl o (ac_fl cl o)) o)), (ac_nn c), al, wh, (ac_mm t), fl, gr, su, pa, pd, oc, wy, bf)) : wpX_stir post (gA, gD, st, (ac_xp p), cl, (ac_nn c), al, wh, (ac_mm t), fl, gr, su, pa, pd, oc, wy, bf) (nI o) := by
  have hsame : ac_same o cl (upd cl o (ac_fl cl o)) p p c c al al wh wh t t fl fl := fun x hx => ⟨pk_un hx, rfl, rfl, fun _ _ => ⟨rfl, rfl, rfl, rfl⟩⟩
  unfold wpX_stir
  dsimp only
  refine ac_xbo ho (br_t rfl ⟨vp_in_nI ho (by decide), ?_⟩)
  rw [nI_clamp (show o < 2 ^ 31 by omega)]
  refine br_f hs (ac_xsubtree ho hs hT ?_)
  intro z hz
  refine ⟨17, ac_xstir30 ho hT hz ?_ 16 0 17 _ _ _ _ _ _ _ _ (by omega) (by omega) hC (fun k h => absurd h (by omega))⟩
  intro gA2 gD2 su2 pa2 pd2 oc2 wy2 bf2 hC2 hb2
  unfold wX_stir_80
  refine ⟨vp_in_nI ho (by decide), ?_⟩
  rw [nI_clamp (show o < 2 ^ 31 by omega), ac_vnf]
  refine nm_e (ac_xdoubt ho hs hT ?_)
  intro su3 hD
  refine ⟨17, ac_xstir91 (F := F) ho hs hT hz ?_ ?_ K 16 0 17 _ _ _ _ _ _ _ (by omega) (by omega) (ac_C_doubt hT.2.2.2.2.1 hsame hC2 hD)⟩
  · intro k hk hb q hq
    have hst := ((hz k hk).mp hb).1
    rw [hF (k * 6 + q) (by omega), show (k * 6 + q) / 6 = k by omega, show (k * 6 + q) % 6 = q by omega, hb2 k hk hb q hq]
    unfold ac_R
    rw [if_neg hst, if_neg hst]
  · intro k hk hb q hq
    rw [hF (k * 6 + q) (by omega), show (k * 6 + q) / 6 = k by omega, show (k * 6 + q) % 6 = q by omega]
    refine decide_eq_false (fun h => h ?_)
    unfold ac_R
    by_cases hst : st k = 0
    · rw [if_pos hst, if_pos hst]
    · rw [if_neg hst, if_neg hst]
      have hn : ∀ j, ac_up p j k ≠ o := by
        intro j hj
        rw [(hz k hk).mpr ⟨hst, j, hj⟩] at hb
        exact absurd hb (by decide)
      have hA := ac_AP_agree (gr := gr) (N := fun x => ∀ j, ac_up p j x ≠ o) hT.2.2.2.2.1 hsame (fun x hx => ⟨hx 0, fun j => hx (j + 1)⟩) (k := k) hn q
      rw [hA.2]
end
end
section
/-! the tree under create, remove, move; the loops of remove, move and drop -/
theorem ac_up_agree {p p' : Nat → Nat} {N : Nat → Prop} (hN : ∀ x, N x → N (p x)) (ha : ∀ x, N x → p' x = p x) : ∀ n x, N x → ac_up p' n x = ac_up p n x := by
  intro n
  induction n with
  | zero => intro x _; rfl
  | succ n ih =>
    intro x hx
    show ac_up p' n (p' x) = ac_up p n (p x)
    rw [ha x hx]
    exact ih (p x) (hN x hx)
section
variable {st cl al wh fl gr su pa oc : Nat → Int32} {p c : Nat → Nat} {t : Nat → Nat → Bool}
theorem ac_T_create {o q : Nat} (hT : ac_T st p c al wh) (h1 : 1 ≤ o) (ho : o < 16) (hq : q < 16) (hso : st o = 0) (hsq : ¬ st q = 0) : ac_T (upd st o 1) (ac_u p o q) (ac_u c o 0) al wh := by
  have hN : ∀ x, (x < 16 ∧ ¬ st x = 0) → (p x < 16 ∧ ¬ st (p x) = 0) := fun x hx => ⟨hT.1 x, (hT.2.2.2.1 x hx.1 hx.2).1⟩
  have hne : ∀ x, ¬ st x = 0 → x ≠ o := fun x hx e => hx (by rw [e]; exact hso)
  have hup : ∀ x, x < 16 → ¬ st x = 0 → ∃ n, ac_up (ac_u p o q) n x = 0 := by
    intro x hx hs
    obtain ⟨n, hn⟩ := (hT.2.2.2.1 x hx hs).2
    refine ⟨n, ?_⟩
    rw [ac_up_agree (N := fun x => x < 16 ∧ ¬ st x = 0) hN (fun y hy => ac_un (hne y hy.2)) n x ⟨hx, hs⟩]
    exact hn
  refine ⟨?_, ?_, ?_, ?_, ?_, hT.2.2.2.2.2.1, hT.2.2.2.2.2.2⟩
  · intro k
    by_cases e : k = o
    · rw [e, ac_us]; exact hq
    · rw [ac_un e]; exact hT.1 k
  · rw [ac_un (by omega)]; exact hT.2.1
  · rw [pk_un (by omega)]; exact hT.2.2.1
  · intro k hk hs
    by_cases e : k = o
    · subst e
      rw [ac_us, pk_un (hne q hsq)]
      refine ⟨hsq, ?_⟩
      obtain ⟨n, hn⟩ := hup q hq hsq
      refine ⟨n + 1, ?_⟩
      show ac_up (ac_u p k q) n (ac_u p k q k) = 0
      rw [ac_us]; exact hn
    · rw [pk_un e] at hs
      have a := (hT.2.2.2.1 k hk hs).1
      rw [ac_un e, pk_un (hne _ a)]
      exact ⟨a, hup k hk hs⟩
  · intro k
    by_cases e : k = o
    · rw [e, ac_us]; omega
    · rw [ac_un e]; exact hT.2.2.2.2.1 k
theorem ac_C_create {o q : Nat} (hT : ac_T st p c al wh) (hso : st o = 0) (hC : ac_C st cl p c al wh t fl gr su pa oc) : ac_C (upd st o 1) (upd cl o 0) (ac_u p o q) (ac_u c o 0) al wh t fl gr (upd su o 0) pa oc := by
  intro k hk hs hsu pp hpp
  by_cases e : k = o
  · subst e
    rw [pk_us] at hsu
    exact absurd rfl hsu
  · rw [pk_un e] at hs hsu
    have hne : ∀ x, ¬ st x = 0 → x ≠ o := fun x hx e => hx (by rw [e]; exact hso)
    have hA := ac_AP_agree (gr := gr) (o := o) (cl := cl) (cl' := upd cl o 0) (p := p) (p' := ac_u p o q) (c := c) (c' := ac_u c o 0) (al := al) (al' := al) (wh := wh) (wh' := wh) (t := t) (t' := t) (fl := fl) (fl' := fl) (N := fun x => x < 16 ∧ ¬ st x = 0) hT.2.2.2.2.1
      (fun x hx => ⟨pk_un hx, ac_un hx, ac_un hx, fun _ _ => ⟨rfl, rfl, rfl, rfl⟩⟩)
      (fun x hx => ⟨hne x hx.2, hT.1 x, (hT.2.2.2.1 x hx.1 hx.2).1⟩) (k := k) ⟨hk, hs⟩ pp
    rw [hA.1, hA.2]
    exact hC k hk hs hsu pp hpp
theorem ac_T_remove {o : Nat} (hT : ac_T st p c al wh) (h1 : 1 ≤ o) (hB : ¬ ∃ k, 1 ≤ k ∧ k < 16 ∧ ¬ st k = 0 ∧ p k = o) : ac_T (upd st o 0) p c al wh := by
  refine ⟨hT.1, hT.2.1, ?_, ?_, hT.2.2.2.2.1, hT.2.2.2.2.2.1, hT.2.2.2.2.2.2⟩
  · rw [pk_un (by omega)]; exact hT.2.2.1
  · intro k hk hs
    by_cases e : k = o
    · rw [e, pk_us] at hs
      exact absurd rfl hs
    · rw [pk_un e] at hs
      have a := hT.2.2.2.1 k hk hs
      have hne : p k ≠ o := by
        intro h
        by_cases k0 : k = 0
        · rw [k0, hT.2.1] at h; omega
        · exact hB ⟨k, by omega, hk, hs, h⟩
      rw [pk_un hne]
      exact a
theorem ac_C_remove {o : Nat} (hC : ac_C st cl p c al wh t fl gr su pa oc) : ac_C (upd st o 0) cl p c al wh t fl gr su pa oc := by
  intro k hk hs
  by_cases e : k = o
  · rw [e, pk_us] at hs
    exact absurd rfl hs
  · rw [pk_un e] at hs
    exact hC k hk hs
theorem ac_T_move {o q : Nat} (hT : ac_T st p c al wh) (h1 : 1 ≤ o) (hq : q < 16) (hsq : ¬ st q = 0) (hB : ¬ ∃ j, ac_up p j q = o) : ac_T st (ac_u p o q) c al wh := by
  have hq0 : ∃ n, ac_up (ac_u p o q) n q = 0 := by
    obtain ⟨n, hn⟩ := (hT.2.2.2.1 q hq hsq).2
    refine ⟨n, ?_⟩
    rw [ac_up_agree (p := p) (N := fun x => ∀ j, ac_up p j x ≠ o) (fun x hx j => hx (j + 1)) (fun x hx => ac_un (hx 0)) n q (fun j h => hB ⟨j, h⟩)]
    exact hn
  have hup : ∀ n k, ac_up p n k = 0 → ∃ m, ac_up (ac_u p o q) m k = 0 := by
    intro n
    induction n with
    | zero => intro k h; exact ⟨0, h⟩
    | succ n ih =>
      intro k h
      by_cases e : k = o
      · obtain ⟨m, hm⟩ := hq0
        refine ⟨m + 1, ?_⟩
        show ac_up (ac_u p o q) m (ac_u p o q k) = 0
        rw [e, ac_us]; exact hm
      · obtain ⟨m, hm⟩ := ih (p k) h
        refine ⟨m + 1, ?_⟩
        show ac_up (ac_u p o q) m (ac_u p o q k) = 0
        rw [ac_un e]; exact hm
  refine ⟨?_, ?_, hT.2.2.1, ?_, hT.2.2.2.2.1, hT.2.2.2.2.2.1, hT.2.2.2.2.2.2⟩
  · intro k
    by_cases e : k = o
    · rw [e, ac_us]; exact hq
    · rw [ac_un e]; exact hT.1 k
  · rw [ac_un (by omega)]; exact hT.2.1
  · intro k hk hs
    obtain ⟨a, n, hn⟩ := hT.2.2.2.1 k hk hs
    refine ⟨?_, hup n k hn⟩
    by_cases e : k = o
    · rw [e, ac_us]; exact hsq
    · rw [ac_un e]; exact a
end
section
variable {gA gD : Int32} {st cl al wh fl gr su pa pd oc wy bf yb : Nat → Int32} {p c : Nat → Nat} {t : Nat → Nat → Bool}
theorem ac_xremove27 {post : Int32 → SX → Prop} {o : Nat} (ho : o < 16) (hp : ∀ k, p k < 16) (K1 : (∃ k, 1 ≤ k ∧ k < 16 ∧ ¬ st k = 0 ∧ p k = o) → post (-4) (gA, gD, st, (ac_xp p), cl, (ac_nn c), al, wh, (ac_mm t), fl, gr, su, pa, pd, oc, wy, bf)) (K2 : (¬ ∃ k, 1 ≤ k ∧ k < 16 ∧ ¬ st k = 0 ∧ p k = o) → post 0 (gA, gD, (upd st o 0), (ac_xp p), cl, (ac_nn c), al, wh, (ac_mm t), fl, gr, su, pa, pd, oc, wy, bf)) :
    ∀ d k n, k + d = 16 → d < n → 1 ≤ k → (∀ q, 1 ≤ q → q < k → ¬ st q = 0 → p q ≠ o) → wX_remove_27 post (nI o) gA gD st (ac_xp p) cl (ac_nn c) al wh (ac_mm t) fl gr su pa pd oc wy bf n (nI k) := by
  intro d
  induction d with
  | zero =>
    intro k n hk hn h1 hq
    obtain ⟨n, rfl⟩ : ∃ m, n = m + 1 := ⟨n - 1, by omega⟩
    have : k = 16 := by omega
    subst this
    refine br_t (nI_le (b := 16) (Nat.le_refl 16) (by decide)) ⟨vp_in_nI ho (by decide), ?_⟩
    rw [nI_clamp (show o < 2 ^ 31 by omega), ac_vn0]
    exact nm_e (K2 (fun ⟨q, q1, q2, q3, q4⟩ => hq q q1 q2 q3 q4))
  | succ d ih =>
    intro k n hk hn h1 hq
    obtain ⟨n, rfl⟩ : ∃ m, n = m + 1 := ⟨n - 1, by omega⟩
    have hin : vp_in (nI k) 16 := vp_in_nI (by omega) (by decide)
    refine br_f (nI_ge (b := 16) (show k < 16 by omega) (by decide)) ⟨hin, ?_⟩
    rw [nI_clamp (show k < 2 ^ 31 by omega), ac_xpn (show k ≠ 0 by omega)]
    have hpk := hp k
    rw [nI_eq (show p k < 2 ^ 31 by omega) (show o < 2 ^ 31 by omega)]
    by_cases hst : st k = 0
    · refine br_t hst (nm_r (nI_1 k) (ih (k + 1) n (by omega) (by omega) (by omega) ?_))
      intro q q1 q2 q3
      by_cases e : q = k
      · subst e; exact absurd hst q3
      · exact hq q q1 (by omega) q3
    · refine br_f hst ⟨hin, ?_⟩
      by_cases hb : p k = o
      · exact br_t hb (K1 ⟨k, h1, by omega, hst, hb⟩)
      · refine br_f hb (nm_r (nI_1 k) (ih (k + 1) n (by omega) (by omega) (by omega) ?_))
        intro q q1 q2 q3
        by_cases e : q = k
        · subst e; exact hb
        · exact hq q q1 (by omega) q3
theorem ac_yremove28 {post : Int32 → SY → Prop} {o : Nat} (ho : o < 16) (hp : ∀ k, p k < 16) (K1 : (∃ k, 1 ≤ k ∧ k < 16 ∧ ¬ st k = 0 ∧ p k = o) → post (-4) (st, (ac_nn p), cl, gr, (ac_nn c), al, wh, (ac_mm t), fl, yb)) (K2 : (¬ ∃ k, 1 ≤ k ∧ k < 16 ∧ ¬ st k = 0 ∧ p k = o) → post 0 ((upd st o 0), (ac_nn p), cl, gr, (ac_nn c), al, wh, (ac_mm t), fl, yb)) :
    ∀ d k n, k + d = 16 → d < n → 1 ≤ k → (∀ q, 1 ≤ q → q < k → ¬ st q = 0 → p q ≠ o) → wY_remove_28 post (nI o) st (ac_nn p) cl gr (ac_nn c) al wh (ac_mm t) fl yb n (nI k) := by
  intro d
  induction d with
  | zero =>
    intro k n hk hn h1 hq
    obtain ⟨n, rfl⟩ : ∃ m, n = m + 1 := ⟨n - 1, by omega⟩
    have : k = 16 := by omega
    subst this
    refine br_t (nI_le (b := 16) (Nat.le_refl 16) (by decide)) ⟨vp_in_nI ho (by decide), ?_⟩
    rw [nI_clamp (show o < 2 ^ 31 by omega), ac_vn0]
    exact nm_e (K2 (fun ⟨q, q1, q2, q3, q4⟩ => hq q q1 q2 q3 q4))
  | succ d ih =>
    intro k n hk hn h1 hq
    obtain ⟨n, rfl⟩ : ∃ m, n = m + 1 := ⟨n - 1, by omega⟩
    have hin : vp_in (nI k) 16 := vp_in_nI (by omega) (by decide)
    refine br_f (nI_ge (b := 16) (show k < 16 by omega) (by decide)) ⟨hin, ?_⟩
    rw [nI_clamp (show k < 2 ^ 31 by omega), show ac_nn p k = nI (p k) from rfl]
    have hpk := hp k
    rw [nI_eq (show p k < 2 ^ 31 by omega) (show o < 2 ^ 31 by omega)]
    by_cases hst : st k = 0
    · refine br_t hst (nm_r (nI_1 k) (ih (k + 1) n (by omega) (by omega) (by omega) ?_))
      intro q q1 q2 q3
      by_cases e : q = k
      · subst e; exact absurd hst q3
      · exact hq q q1 (by omega) q3
    · refine br_f hst ⟨hin, ?_⟩
      by_cases hb : p k = o
      · exact br_t hb (K1 ⟨k, h1, by omega, hst, hb⟩)
      · refine br_f hb (nm_r (nI_1 k) (ih (k + 1) n (by omega) (by omega) (by omega) ?_))
        intro q q1 q2 q3
        by_cases e : q = k
        · subst e; exact hb
        · exact hq q q1 (by omega) q3
theorem ac_ymove80 {post : Int32 → SY → Prop} {o q : Nat} (ho : o < 16) (K : post (nI (p o)) (st, (ac_nn (ac_u p o q)), cl, gr, (ac_nn c), al, wh, (ac_mm t), fl, yb)) : wY_move_80 post (nI o) (nI q) st (ac_nn p) cl gr (ac_nn c) al wh (ac_mm t) fl yb := by
  unfold wY_move_80
  rw [nI_clamp (show o < 2 ^ 31 by omega), ac_u_nn]
  exact ⟨vp_in_nI ho (by decide), nm_e ⟨vp_in_nI ho (by decide), nm_e K⟩⟩
theorem ac_ymove48 {post : Int32 → SY → Prop} {o q : Nat} (h1 : 1 ≤ o) (ho : o < 16) (hq : q < 16) (hsq : ¬ st q = 0) (hT : ac_T st p c al wh)
    (K1 : (∃ j, ac_up p j q = o) → post (-4) (st, (ac_nn p), cl, gr, (ac_nn c), al, wh, (ac_mm t), fl, yb)) (K2 : (¬ ∃ j, ac_up p j q = o) → post (nI (p o)) (st, (ac_nn (ac_u p o q)), cl, gr, (ac_nn c), al, wh, (ac_mm t), fl, yb)) :
    ∀ d i n, i + d = 16 → d < n → (∀ j, j < i → ac_up p j q ≠ o) → wY_move_48 post (nI o) (nI q) st (ac_nn p) cl gr (ac_nn c) al wh (ac_mm t) fl yb n (nI (ac_up p i q)) (nI i) := by
  have h15 := ac_T15 hT hq hsq
  intro d
  induction d with
  | zero =>
    intro i n hi hn hj
    obtain ⟨n, rfl⟩ : ∃ m, n = m + 1 := ⟨n - 1, by omega⟩
    have : i = 16 := by omega
    subst this
    refine br_t (nI_le (b := 16) (Nat.le_refl 16) (by decide)) (ac_ymove80 ho (K2 ?_))
    rintro ⟨j, h⟩
    by_cases e : j < 16
    · exact hj j e h
    · rw [ac_up_ge hT.2.1 h15 (by omega)] at h
      omega
  | succ d ih =>
    intro i n hi hn hj
    obtain ⟨n, rfl⟩ : ∃ m, n = m + 1 := ⟨n - 1, by omega⟩
    have hU := ac_Tup hT i q hq hsq
    refine br_f (nI_ge (b := 16) (show i < 16 by omega) (by decide)) ?_
    by_cases z : ac_up p i q = 0
    · refine br_t (by rw [z]; exact nI_0) (ac_ymove80 ho (K2 ?_))
      rintro ⟨j, h⟩
      by_cases e : j < i
      · exact hj j e h
      · rw [ac_up_ge hT.2.1 z (by omega)] at h
        omega
    · refine br_f (nI_ne0 (by omega) (by omega)) ?_
      rw [nI_eq (show ac_up p i q < 2 ^ 31 by omega) (show o < 2 ^ 31 by omega)]
      by_cases e : ac_up p i q = o
      · exact br_t e (K1 ⟨i, e⟩)
      · refine br_f e ⟨vp_in_nI hU.1 (by decide), ?_⟩
        rw [nI_clamp (show ac_up p i q < 2 ^ 31 by omega)]
        refine nm_r (e' := nI (ac_up p (i + 1) q)) (by rw [ac_up_s]; rfl) (nm_r (nI_1 i) (ih (i + 1) n (by omega) (by omega) ?_))
        intro j hj2
        by_cases e2 : j = i
        · rw [e2]; exact e
        · exact hj j (by omega)
end
/-! drop: the entries behind move one place -/
def ac_sh {α : Type} (f : Nat → α) : Nat → Nat → Nat → α
  | _, 0 => f
  | b, d + 1 => ac_sh (ac_u f b (f (b + 1))) (b + 1) d
theorem ac_sh_s {α : Type} (f : Nat → α) (b d : Nat) : ac_sh f b (d + 1) = ac_sh (ac_u f b (f (b + 1))) (b + 1) d := rfl
theorem ac_sh_all {α : Type} {Q : α → Prop} : ∀ d b (f : Nat → α), (∀ k, Q (f k)) → ∀ k, Q (ac_sh f b d k) := by
  intro d
  induction d with
  | zero => intro b f h; exact h
  | succ d ih =>
    intro b f h
    refine ih (b + 1) _ ?_
    intro k
    by_cases e : k = b
    · rw [e, ac_us]; exact h _
    · rw [ac_un e]; exact h k
theorem ac_sh_out {α : Type} : ∀ d b (f : Nat → α) k, (k < b ∨ b + d ≤ k) → ac_sh f b d k = f k := by
  intro d
  induction d with
  | zero => intro b f k _; rfl
  | succ d ih =>
    intro b f k h
    rw [ac_sh_s, ih (b + 1) _ k (by omega), ac_un (by omega)]
section
variable {gA gD : Int32} {st cl fl gr su pa pd oc wy bf yb : Nat → Int32} {p c : Nat → Nat}
theorem ac_vnb {z : Int32} (h : z = 0 ∨ z = 1) : vp_nar .boolean z = z := by
  rcases h with rfl | rfl <;> rfl
theorem ac_u_upd (f : Nat → Int32) (k : Nat) (x : Int32) : upd f k x = ac_u f k x := rfl
theorem ac_xdrop42 {post : Int32 → SX → Prop} {o : Nat} (ho : o < 16) (hs : ¬ st o = 0) (h1 : 1 ≤ c o) (h4 : c o ≤ 4) :
    ∀ d i n al wh t fl, i + d + 1 = c o → d < n → (∀ k, al k = 0 ∨ al k = 1) → ac_T st p (ac_u c o (c o - 1)) (ac_sh al (o * 4 + i) d) (ac_sh wh (o * 4 + i) d) →
    (∀ su', ac_D st p o su su' → post (nI (c o - 1)) (gA, gD, st, (ac_xp p), cl, (ac_nn (ac_u c o (c o - 1))), (ac_sh al (o * 4 + i) d), (ac_sh wh (o * 4 + i) d), (ac_mm (ac_sh t (o * 4 + i) d)), (ac_sh fl (o * 4 + i) d), gr, su', pa, pd, oc, wy, bf)) →
    wX_drop_42 post (nI o) gA gD n (nI (o * 4 + i)) st (ac_xp p) cl (ac_nn c) al wh (ac_mm t) fl gr su pa pd oc wy bf := by
  have hin : vp_in (nI o) 16 := vp_in_nI ho (by decide)
  have hcl : (nI o).toNatClampNeg = o := nI_clamp (by omega)
  have hE : nI o * 4 + ac_nn c o - 1 = nI (o * 4 + c o - 1) := by
    show nI o * nI 4 + nI (c o) - nI 1 = _
    rw [pk_mul, nI_add, pk_sub (by omega)]
  have hc1 : ac_nn c o - 1 = nI (c o - 1) := by
    show nI (c o) - nI 1 = _
    rw [pk_sub (by omega)]
  intro d
  induction d with
  | zero =>
    intro i n al wh t fl hi hn hal hT K
    obtain ⟨n, rfl⟩ : ∃ m, n = m + 1 := ⟨n - 1, by omega⟩
    refine ⟨hin, br_t ?_ ⟨hin, hin, ?_⟩⟩
    · rw [hcl, hE]
      exact nI_le (by omega) (by omega)
    rw [hcl, hc1, ac_u_nn]
    refine nm_e (ac_xdoubt ho hs hT ?_)
    intro su2 hD
    refine ⟨hin, ?_⟩
    rw [show ac_nn (ac_u c o (c o - 1)) o = nI (c o - 1) by show nI (ac_u c o (c o - 1) o) = _; rw [ac_us]]
    exact K su2 hD
  | succ d ih =>
    intro i n al wh t fl hi hn hal hT K
    obtain ⟨n, rfl⟩ : ∃ m, n = m + 1 := ⟨n - 1, by omega⟩
    have h1 : vp_in (nI (o * 4 + i)) 64 := vp_in_nI (by omega) (by decide)
    have h2 : vp_in (nI (o * 4 + i + 1)) 64 := vp_in_nI (by omega) (by decide)
    refine ⟨hin, br_f ?_ ?_⟩
    · rw [hcl, hE]
      exact nI_ge (by omega) (by omega)
    rw [nI_1, nI_clamp (show o * 4 + i + 1 < 2 ^ 31 by omega), nI_clamp (show o * 4 + i < 2 ^ 31 by omega), ac_vnb (hal _), show ac_mm t (o * 4 + i + 1) = ac_mk (t (o * 4 + i + 1)) from rfl, ac_u_mm]
    refine ⟨h2, h1, nm_e ⟨h2, h1, nm_e ⟨h2, h1, nm_e ⟨h2, h1, nm_e (nm_e ?_)⟩⟩⟩⟩
    refine ih (i + 1) n (ac_u al (o * 4 + i) (al (o * 4 + i + 1))) (ac_u wh (o * 4 + i) (wh (o * 4 + i + 1))) (ac_u t (o * 4 + i) (t (o * 4 + i + 1))) (ac_u fl (o * 4 + i) (fl (o * 4 + i + 1))) (by omega) (by omega) ?_ hT K
    intro k
    by_cases e : k = o * 4 + i
    · rw [e, ac_us]; exact hal _
    · rw [ac_un e]; exact hal k
theorem ac_ydrop42 {post : Int32 → SY → Prop} {o : Nat} (ho : o < 16) (h1 : 1 ≤ c o) (h4 : c o ≤ 4) :
    ∀ d i n al wh t fl, i + d + 1 = c o → d < n → (∀ k, al k = 0 ∨ al k = 1) →
    post (nI (c o - 1)) (st, (ac_nn p), cl, gr, (ac_nn (ac_u c o (c o - 1))), (ac_sh al (o * 4 + i) d), (ac_sh wh (o * 4 + i) d), (ac_mm (ac_sh t (o * 4 + i) d)), (ac_sh fl (o * 4 + i) d), yb) →
    wY_drop_42 post (nI o) n (nI (o * 4 + i)) st (ac_nn p) cl gr (ac_nn c) al wh (ac_mm t) fl yb := by
  have hin : vp_in (nI o) 16 := vp_in_nI ho (by decide)
  have hcl : (nI o).toNatClampNeg = o := nI_clamp (by omega)
  have hE : 4 * nI o + ac_nn c o - 1 = nI (o * 4 + c o - 1) := by
    show nI 4 * nI o + nI (c o) - nI 1 = _
    rw [pk_mul, nI_add, pk_sub (by omega), Nat.mul_comm]
  have hc1 : ac_nn c o - 1 = nI (c o - 1) := by
    show nI (c o) - nI 1 = _
    rw [pk_sub (by omega)]
  intro d
  induction d with
  | zero =>
    intro i n al wh t fl hi hn hal K
    obtain ⟨n, rfl⟩ : ∃ m, n = m + 1 := ⟨n - 1, by omega⟩
    refine ⟨hin, br_t ?_ ⟨hin, hin, ?_⟩⟩
    · rw [hcl, hE]
      exact nI_le (by omega) (by omega)
    rw [hcl, hc1, ac_u_nn]
    refine nm_e ⟨hin, ?_⟩
    rw [show ac_nn (ac_u c o (c o - 1)) o = nI (c o - 1) by show nI (ac_u c o (c o - 1) o) = _; rw [ac_us]]
    exact K
  | succ d ih =>
    intro i n al wh t fl hi hn hal K
    obtain ⟨n, rfl⟩ : ∃ m, n = m + 1 := ⟨n - 1, by omega⟩
    have h1 : vp_in (nI (o * 4 + i)) 64 := vp_in_nI (by omega) (by decide)
    have h2 : vp_in (nI (o * 4 + i + 1)) 64 := vp_in_nI (by omega) (by decide)
    refine ⟨hin, br_f ?_ ?_⟩
    · rw [hcl, hE]
      exact nI_ge (by omega) (by omega)
    rw [nI_1, nI_clamp (show o * 4 + i + 1 < 2 ^ 31 by omega), nI_clamp (show o * 4 + i < 2 ^ 31 by omega), ac_vnb (hal _), show ac_mm t (o * 4 + i + 1) = ac_mk (t (o * 4 + i + 1)) from rfl, ac_u_mm]
    refine ⟨h2, h1, nm_e ⟨h2, h1, nm_e ⟨h2, h1, nm_e ⟨h2, h1, nm_e (nm_e ?_)⟩⟩⟩⟩
    refine ih (i + 1) n (ac_u al (o * 4 + i) (al (o * 4 + i + 1))) (ac_u wh (o * 4 + i) (wh (o * 4 + i + 1))) (ac_u t (o * 4 + i) (t (o * 4 + i + 1))) (ac_u fl (o * 4 + i) (fl (o * 4 + i + 1))) (by omega) (by omega) ?_ K
    intro k
    by_cases e : k = o * 4 + i
    · rw [e, ac_us]; exact hal _
    · rw [ac_un e]; exact hal k
end
end
section
/-- the relation: one tree, one list of entries, and the component's tables right where it is sure -/
def i_Rel (_ : Nat) (u : SX) (v : SY) : Prop :=
  ∃ (gA gD : Int32) (st : Nat → Int32) (p : Nat → Nat) (cl : Nat → Int32) (c : Nat → Nat) (al wh : Nat → Int32) (t : Nat → Nat → Bool) (fl gr su pa pd oc wy bf yb : Nat → Int32),
    u = (gA, gD, st, (ac_xp p), cl, (ac_nn c), al, wh, (ac_mm t), fl, gr, su, pa, pd, oc, wy, bf) ∧ v = (st, (ac_nn p), cl, gr, (ac_nn c), al, wh, (ac_mm t), fl, yb) ∧ ac_T st p c al wh ∧ ac_C st cl p c al wh t fl gr su pa oc
theorem ac_el {P : SX → SY → Prop} (h : ∀ (gA gD : Int32) (st : Nat → Int32) (p : Nat → Nat) (cl : Nat → Int32) (c : Nat → Nat) (al wh : Nat → Int32) (t : Nat → Nat → Bool) (fl gr su pa pd oc wy bf yb : Nat → Int32),
    ac_T st p c al wh → ac_C st cl p c al wh t fl gr su pa oc → P (gA, gD, st, (ac_xp p), cl, (ac_nn c), al, wh, (ac_mm t), fl, gr, su, pa, pd, oc, wy, bf) (st, (ac_nn p), cl, gr, (ac_nn c), al, wh, (ac_mm t), fl, yb)) {k : Nat} {u : SX} {v : SY} (I : i_Rel k u v) : P u v :=
  Exists.elim I fun gA I => Exists.elim I fun gD I => Exists.elim I fun st I => Exists.elim I fun p I => Exists.elim I fun cl I => Exists.elim I fun c I => Exists.elim I fun al I => Exists.elim I fun wh I => Exists.elim I fun t I => Exists.elim I fun fl I => Exists.elim I fun gr I => Exists.elim I fun su I => Exists.elim I fun pa I => Exists.elim I fun pd I => Exists.elim I fun oc I => Exists.elim I fun wy I => Exists.elim I fun bf I => Exists.elim I fun yb I => by
    rw [I.1, I.2.1]
    exact h gA gD st p cl c al wh t fl gr su pa pd oc wy bf yb I.2.2.1 I.2.2.2
section
variable {gA gD : Int32} {st cl al wh fl gr su pa pd oc wy bf yb : Nat → Int32} {p c : Nat → Nat} {t : Nat → Nat → Bool}
theorem ac_in (k : Nat) (hT : ac_T st p c al wh) (hC : ac_C st cl p c al wh t fl gr su pa oc) : i_Rel k (gA, gD, st, (ac_xp p), cl, (ac_nn c), al, wh, (ac_mm t), fl, gr, su, pa, pd, oc, wy, bf) (st, (ac_nn p), cl, gr, (ac_nn c), al, wh, (ac_mm t), fl, yb) :=
  ⟨gA, gD, st, p, cl, c, al, wh, t, fl, gr, su, pa, pd, oc, wy, bf, yb, rfl, rfl, hT, hC⟩
end
theorem i_up {k : Nat} {u : SX} {v : SY} (h : i_Rel k u v) : i_Rel (k + 5) u v := h
theorem i_vc0 : wpX_init (fun u => wpY_init (fun v => i_Rel 0 u v)) := by
  unfold wpX_init
  refine nm_e (nm_r (e' := ac_xp (fun _ => 0)) ?_ ?_)
  · funext j
    by_cases e : j = 0
    · rw [e, pk_us]; rfl
    · rw [pk_un e, ac_xpn e]; exact nI_0.symm
  unfold wpY_init
  refine nm_e ?_
  have en : ac_nn (fun _ => 0) = fun _ => 0 := funext fun _ => nI_0
  have em : ac_mm (fun _ _ => false) = fun _ => 0 := funext fun _ => ac_mk_0.symm
  refine ⟨0, 0, upd (fun _ => 0) 0 (vp_nar .boolean 1), (fun _ => 0), (fun _ => 0), (fun _ => 0), (fun _ => 0), (fun _ => 0), (fun _ _ => false), (fun _ => 0), (fun _ => 0), (fun _ => 0), (fun _ => 0), (fun _ => 0), (fun _ => 0), (fun _ => 0), (fun _ => 0), (fun _ => 0), ?_, ?_, ?_, ?_⟩
  · rw [en, em]
  · rw [en, em]
  · refine ⟨fun _ => (by decide : (0 : Nat) < 16), rfl, ?_, ?_, fun _ => (by decide : (0 : Nat) ≤ 4), fun _ => Or.inl rfl, fun _ h => absurd h (by decide : ¬ (6 : Int32) ≤ 0)⟩
    · rw [pk_us, ac_vn1]; decide
    · intro k hk h
      by_cases e : k = 0
      · subst e
        exact ⟨h, 0, rfl⟩
      · rw [pk_un e] at h
        exact absurd rfl h
  · intro k hk hs hsu
    exact absurd rfl hsu
/-! arguments -/
theorem ac_v0 (v : Int32) : (v < 0 ∨ nI 16 ≤ v) ∨ ∃ o, o < 16 ∧ v = nI o := by
  rcases pk_ix v (n := 16) (by decide) with h | h | h
  · exact Or.inl (Or.inl h)
  · exact Or.inl (Or.inr h)
  · exact Or.inr h
theorem ac_v1 (v : Int32) : (v < 0 ∨ nI 16 ≤ v) ∨ v = nI 0 ∨ ∃ o, 1 ≤ o ∧ o < 16 ∧ v = nI o := by
  rcases ac_v0 v with h | ⟨o, h, e⟩
  · exact Or.inl h
  · by_cases z : o = 0
    · subst z; exact Or.inr (Or.inl e)
    · exact Or.inr (Or.inr ⟨o, by omega, h, e⟩)
theorem ac_v6 (v : Int32) : (v < 0 ∨ nI 6 ≤ v) ∨ ∃ o, o < 6 ∧ v = nI o := by
  rcases pk_ix v (n := 6) (by decide) with h | h | h
  · exact Or.inl (Or.inl h)
  · exact Or.inl (Or.inr h)
  · exact Or.inr h
theorem ac_v4 (v : Int32) : (v < 0 ∨ nI 4 ≤ v) ∨ ∃ o, o < 4 ∧ v = nI o := by
  rcases pk_ix v (n := 4) (by decide) with h | h | h
  · exact Or.inl (Or.inl h)
  · exact Or.inl (Or.inr h)
  · exact Or.inr h
theorem ac_lt01 {v : Int32} (h : v < 0) : v < 1 := by
  rw [Int32.lt_iff_toInt_lt] at h ⊢
  have h0 : (0 : Int32).toInt = 0 := by decide
  have h1 : (1 : Int32).toInt = 1 := by decide
  omega
theorem ac_preA {P Q : Prop} {v : Int32} (hv : v < 0 ∨ nI 16 ≤ v) (K : P) : (v < 1 → P) ∧ (¬ v < 1 → ((16 ≤ v → P) ∧ (¬ 16 ≤ v → Q))) := by
  by_cases h : v < 1
  · exact br_t h K
  · exact br_f h (br_t (hv.resolve_left (fun z => h (ac_lt01 z))) K)
theorem ac_preO {P Q : Prop} {o : Nat} (h1 : 1 ≤ o) (ho : o < 16) (K : Q) : (nI o < 1 → P) ∧ (¬ nI o < 1 → ((16 ≤ nI o → P) ∧ (¬ 16 ≤ nI o → Q))) :=
  br_f (nI_nlt (b := 1) h1 (by omega)) (br_f (nI_ge (b := 16) ho (by decide)) K)
theorem ac_pr4A {P Q : Prop} {v : Int32} (hv : v < 0 ∨ nI 4 ≤ v) (K : P) : (v < 0 → P) ∧ (¬ v < 0 → ((v ≤ 3 → Q) ∧ (¬ v ≤ 3 → P))) := by
  by_cases h : v < 0
  · exact br_t h K
  · refine br_f h (br_f ?_ K)
    obtain ⟨j, hj, rfl⟩ := nI_of h
    have h4 := hv.resolve_left h
    rw [nI_leI (by omega) hj] at h4
    exact nI_ge (b := j) (a := 3) (by omega) hj
theorem ac_pr4O {P Q : Prop} {o : Nat} (ho : o < 4) (K : Q) : (nI o < 0 → P) ∧ (¬ nI o < 0 → ((nI o ≤ 3 → Q) ∧ (¬ nI o ≤ 3 → P))) :=
  br_f (nI_pos (by omega)) (br_t (nI_le (b := 3) (show o ≤ 3 by omega) (by decide)) K)
theorem ac_v67 {v : Int32} (h1 : 6 ≤ v) (h2 : v ≤ 7) : vp_in (v - 6) 2 := by
  have h0 : ¬ v < 0 := by
    rw [Int32.lt_iff_toInt_lt]
    rw [Int32.le_iff_toInt_le] at h1
    have e0 : (0 : Int32).toInt = 0 := by decide
    have e6 : (6 : Int32).toInt = 6 := by decide
    omega
  obtain ⟨j, hj, rfl⟩ := nI_of h0
  have a1 : 6 ≤ j := (nI_leI (a := 6) (by omega) hj).mp h1
  have a2 : j ≤ 7 := (nI_leI (b := 7) hj (by omega)).mp h2
  have e : nI j - 6 = nI (j - 6) := pk_sub (b := 6) a1
  rw [e]
  exact vp_in_nI (by omega) (by decide)
end
section
/-! owed: create, remove, move, parentOf, close -/
section
variable {gA gD : Int32} {st cl al wh fl gr su pa pd oc wy bf yb : Nat → Int32} {p c : Nat → Nat} {t : Nat → Nat → Bool}
theorem ac_ycreate {post : Int32 → SY → Prop} {o q : Nat} (h1 : 1 ≤ o) (ho : o < 16) (hq : q < 16) (K1 : ¬ st o = 0 → post (-3) (st, (ac_nn p), cl, gr, (ac_nn c), al, wh, (ac_mm t), fl, yb)) (K2 : st q = 0 → post (-3) (st, (ac_nn p), cl, gr, (ac_nn c), al, wh, (ac_mm t), fl, yb))
    (K3 : st o = 0 → ¬ st q = 0 → post 0 ((upd st o 1), (ac_nn (ac_u p o q)), (upd cl o 0), gr, (ac_nn (ac_u c o 0)), al, wh, (ac_mm t), fl, yb)) : wpY_create post (st, (ac_nn p), cl, gr, (ac_nn c), al, wh, (ac_mm t), fl, yb) (nI o) (nI q) := by
  have hin : vp_in (nI o) 16 := vp_in_nI ho (by decide)
  unfold wpY_create
  dsimp only
  refine ac_yio ho (br_f (by decide) (br_f (nI_ne0 (by omega) (by omega)) (ac_yio hq (br_f (by decide) ⟨hin, ?_⟩))))
  rw [nI_clamp (show o < 2 ^ 31 by omega), nI_clamp (show q < 2 ^ 31 by omega), ac_vn1, ac_vn0, ac_u_nn]
  by_cases a : st o = 0
  · refine br_t a ⟨vp_in_nI hq (by decide), ?_⟩
    by_cases b : st q = 0
    · exact br_t b (K2 b)
    · exact br_f b ⟨hin, nm_e ⟨hin, nm_e ⟨hin, nm_e ⟨hin, nm_r (ac_u_nn c o 0) (K3 a b)⟩⟩⟩⟩
  · exact br_f a (K1 a)
theorem i_vc_create {k : Nat} {u : SX} {v : SY} (I : i_Rel k u v) (hk : k + 5 ≤ 2560) (v1 : Int32) (v2 : Int32) : wpX_create (fun r u' => wpY_create (fun r' v' => r' = r ∧ i_Rel (k + 5) u' v') v v1 v2) u v1 v2 := by
  refine ac_el (P := fun u v => wpX_create (fun r u' => wpY_create (fun r' v' => r' = r ∧ i_Rel (k + 5) u' v') v v1 v2) u v1 v2) ?_ I
  intro gA gD st p cl c al wh t fl gr su pa pd oc wy bf yb hT hC
  unfold wpX_create
  dsimp only
  rcases ac_v1 v1 with hv | rfl | ⟨o, h1, ho, rfl⟩
  · refine ac_preA hv ?_
    unfold wpY_create
    dsimp only
    exact ac_yion hv (br_t rfl ⟨rfl, ac_in _ hT hC⟩)
  · refine br_t (by decide) ?_
    unfold wpY_create
    dsimp only
    exact ac_yio (o := 0) (by omega) (br_f (by decide) (br_t nI_0 ⟨rfl, ac_in _ hT hC⟩))
  · refine ac_preO h1 ho ?_
    have hin : vp_in (nI o) 16 := vp_in_nI ho (by decide)
    rcases ac_v0 v2 with hv | ⟨q, hq, rfl⟩
    · refine ac_xbon hv (br_f (by decide) ?_)
      unfold wpY_create
      dsimp only
      exact ac_yio ho (br_f (by decide) (br_f (nI_ne0 (by omega) (by omega)) (ac_yion hv (br_t rfl ⟨rfl, ac_in _ hT hC⟩))))
    · refine ac_xbo hq (br_t rfl ⟨hin, ?_⟩)
      rw [nI_clamp (show o < 2 ^ 31 by omega), nI_clamp (show q < 2 ^ 31 by omega), ac_vn1, ac_vn0]
      by_cases a : st o = 0
      · refine br_t a ⟨vp_in_nI hq (by decide), ?_⟩
        by_cases b : st q = 0
        · exact br_t b (ac_ycreate h1 ho hq (fun z => absurd a z) (fun _ => ⟨rfl, ac_in _ hT hC⟩) (fun _ z => absurd b z))
        · refine br_f b ⟨hin, nm_e ⟨hin, nm_r (ac_u_xp p q (by omega)) ⟨hin, nm_e ⟨hin, nm_r (ac_u_nn c o 0) ⟨hin, nm_e ?_⟩⟩⟩⟩⟩
          exact ac_ycreate h1 ho hq (fun z => absurd a z) (fun z => absurd z b) (fun _ _ => ⟨rfl, ac_in _ (ac_T_create hT h1 ho hq a b) (ac_C_create hT a hC)⟩)
      · exact br_f a (ac_ycreate h1 ho hq (fun _ => ⟨rfl, ac_in _ hT hC⟩) (fun _ => ⟨rfl, ac_in _ hT hC⟩) (fun z => absurd z a))
theorem i_vc_remove {k : Nat} {u : SX} {v : SY} (I : i_Rel k u v) (hk : k + 5 ≤ 2560) (v1 : Int32) : wpX_remove (fun r u' => wpY_remove (fun r' v' => r' = r ∧ i_Rel (k + 5) u' v') v v1) u v1 := by
  refine ac_el (P := fun u v => wpX_remove (fun r u' => wpY_remove (fun r' v' => r' = r ∧ i_Rel (k + 5) u' v') v v1) u v1) ?_ I
  intro gA gD st p cl c al wh t fl gr su pa pd oc wy bf yb hT hC
  unfold wpX_remove
  dsimp only
  rcases ac_v1 v1 with hv | rfl | ⟨o, h1, ho, rfl⟩
  · have Y : wpY_remove (fun r' v' => r' = -1 ∧ i_Rel (k + 5) (gA, gD, st, (ac_xp p), cl, (ac_nn c), al, wh, (ac_mm t), fl, gr, su, pa, pd, oc, wy, bf) v') (st, (ac_nn p), cl, gr, (ac_nn c), al, wh, (ac_mm t), fl, yb) v1 := by
      unfold wpY_remove
      dsimp only
      exact ac_yion hv (br_t rfl ⟨rfl, ac_in _ hT hC⟩)
    by_cases h : v1 < 1
    · exact br_t h Y
    · exact br_f h (br_f (Int32.not_lt.mpr (hv.resolve_left (fun z => h (ac_lt01 z)))) Y)
  · refine br_t (by decide) ?_
    unfold wpY_remove
    dsimp only
    exact ac_yio (o := 0) (by omega) (br_f (by decide) (br_t nI_0 ⟨rfl, ac_in _ hT hC⟩))
  · have hin : vp_in (nI o) 16 := vp_in_nI ho (by decide)
    have Y : ∀ post : Int32 → SY → Prop, (st o = 0 → post (-3) (st, (ac_nn p), cl, gr, (ac_nn c), al, wh, (ac_mm t), fl, yb)) → (¬ st o = 0 → ∃ n28 : Nat, wY_remove_28 post (nI o) st (ac_nn p) cl gr (ac_nn c) al wh (ac_mm t) fl yb n28 1) → wpY_remove post (st, (ac_nn p), cl, gr, (ac_nn c), al, wh, (ac_mm t), fl, yb) (nI o) := by
      intro post K1 K2
      unfold wpY_remove
      dsimp only
      refine ac_yio ho (br_f (by decide) (br_f (nI_ne0 (by omega) (by omega)) ⟨hin, ?_⟩))
      rw [nI_clamp (show o < 2 ^ 31 by omega)]
      exact br_c K1 K2
    refine br_f (nI_nlt (b := 1) h1 (by omega)) (br_t (nI_lt (b := 16) ho (by decide)) ⟨hin, ?_⟩)
    rw [nI_clamp (show o < 2 ^ 31 by omega)]
    by_cases a : st o = 0
    · exact br_t a (Y _ (fun _ => ⟨rfl, ac_in _ hT hC⟩) (fun z => absurd a z))
    · refine br_f a ⟨16, ac_xremove27 ho hT.1 ?_ ?_ 15 1 16 (by omega) (by omega) (by omega) (fun q q1 q2 => absurd q2 (by omega))⟩
      · intro hB
        refine Y _ (fun z => absurd z a) (fun _ => ⟨16, ac_yremove28 ho hT.1 ?_ ?_ 15 1 16 (by omega) (by omega) (by omega) (fun q q1 q2 => absurd q2 (by omega))⟩)
        · exact fun _ => ⟨rfl, ac_in _ hT hC⟩
        · exact fun z => absurd hB z
      · intro hB
        refine Y _ (fun z => absurd z a) (fun _ => ⟨16, ac_yremove28 ho hT.1 ?_ ?_ 15 1 16 (by omega) (by omega) (by omega) (fun q q1 q2 => absurd q2 (by omega))⟩)
        · exact fun z => absurd z hB
        · exact fun _ => ⟨rfl, ac_in _ (ac_T_remove hT h1 hB) (ac_C_remove hC)⟩
theorem ac_ymove {post : Int32 → SY → Prop} {o q : Nat} (h1 : 1 ≤ o) (ho : o < 16) (hq : q < 16) (hT : ac_T st p c al wh) (K1 : (st o = 0 ∨ st q = 0) → post (-3) (st, (ac_nn p), cl, gr, (ac_nn c), al, wh, (ac_mm t), fl, yb)) (K2 : ¬ st o = 0 → ¬ st q = 0 → (∃ j, ac_up p j q = o) → post (-4) (st, (ac_nn p), cl, gr, (ac_nn c), al, wh, (ac_mm t), fl, yb))
    (K3 : ¬ st o = 0 → ¬ st q = 0 → (¬ ∃ j, ac_up p j q = o) → post (nI (p o)) (st, (ac_nn (ac_u p o q)), cl, gr, (ac_nn c), al, wh, (ac_mm t), fl, yb)) : wpY_move post (st, (ac_nn p), cl, gr, (ac_nn c), al, wh, (ac_mm t), fl, yb) (nI o) (nI q) := by
  have hin : vp_in (nI o) 16 := vp_in_nI ho (by decide)
  unfold wpY_move
  dsimp only
  refine ac_yio ho (br_f (by decide) (br_f (nI_ne0 (by omega) (by omega)) (ac_yio hq (br_f (by decide) ⟨hin, ?_⟩))))
  rw [nI_clamp (show o < 2 ^ 31 by omega), nI_clamp (show q < 2 ^ 31 by omega)]
  by_cases a : st o = 0
  · exact br_t a (K1 (Or.inl a))
  · refine br_f a ⟨vp_in_nI hq (by decide), ?_⟩
    by_cases b : st q = 0
    · exact br_t b (K1 (Or.inr b))
    · exact br_f b ⟨17, ac_ymove48 h1 ho hq b hT (K2 a b) (K3 a b) 16 0 17 (by omega) (by omega) (fun j h => absurd h (by omega))⟩
theorem i_vc_move {k : Nat} {u : SX} {v : SY} (I : i_Rel k u v) (hk : k + 5 ≤ 2560) (v1 : Int32) (v2 : Int32) : wpX_move (fun r u' => wpY_move (fun r' v' => r' = r ∧ i_Rel (k + 5) u' v') v v1 v2) u v1 v2 := by
  refine ac_el (P := fun u v => wpX_move (fun r u' => wpY_move (fun r' v' => r' = r ∧ i_Rel (k + 5) u' v') v v1 v2) u v1 v2) ?_ I
  intro gA gD st p cl c al wh t fl gr su pa pd oc wy bf yb hT hC
  unfold wpX_move
  dsimp only
  rcases ac_v1 v1 with hv | rfl | ⟨o, h1, ho, rfl⟩
  · refine ac_preA hv ?_
    unfold wpY_move
    dsimp only
    exact ac_yion hv (br_t rfl ⟨rfl, ac_in _ hT hC⟩)
  · refine br_t (by decide) ?_
    unfold wpY_move
    dsimp only
    exact ac_yio (o := 0) (by omega) (br_f (by decide) (br_t nI_0 ⟨rfl, ac_in _ hT hC⟩))
  · refine ac_preO h1 ho ?_
    have hin : vp_in (nI o) 16 := vp_in_nI ho (by decide)
    rcases ac_v0 v2 with hv | ⟨q, hq, rfl⟩
    · refine ac_xbon hv (br_f (by decide) ?_)
      unfold wpY_move
      dsimp only
      exact ac_yio ho (br_f (by decide) (br_f (nI_ne0 (by omega) (by omega)) (ac_yion hv (br_t rfl ⟨rfl, ac_in _ hT hC⟩))))
    · refine ac_xbo hq (br_t rfl ⟨hin, ?_⟩)
      rw [nI_clamp (show o < 2 ^ 31 by omega), nI_clamp (show q < 2 ^ 31 by omega), ac_xpn (show o ≠ 0 by omega), ac_u_xp p q (show o ≠ 0 by omega)]
      by_cases a : st o = 0
      · exact br_t a (ac_ymove h1 ho hq hT (fun _ => ⟨rfl, ac_in _ hT hC⟩) (fun z => absurd a z) (fun z => absurd a z))
      · refine br_f a ⟨vp_in_nI hq (by decide), ?_⟩
        by_cases b : st q = 0
        · exact br_t b (ac_ymove h1 ho hq hT (fun _ => ⟨rfl, ac_in _ hT hC⟩) (fun _ z => absurd b z) (fun _ z => absurd b z))
        · refine br_f b (ac_xsubtree ho a hT ?_)
          intro z hz
          by_cases hb : bt z q = true
          · refine br_t ((ac_bit z (by omega)).mpr hb) ?_
            have hB := ((hz q hq).mp hb).2
            exact ac_ymove h1 ho hq hT (fun h => absurd h (by rintro (h | h); exact a h; exact b h)) (fun _ _ _ => ⟨rfl, ac_in _ hT hC⟩) (fun _ _ h => absurd hB h)
          · refine br_f (fun h => hb ((ac_bit z (by omega)).mp h)) ⟨hin, nm_e ⟨hin, nm_e ?_⟩⟩
            have hB : ¬ ∃ j, ac_up p j q = o := fun h => hb ((hz q hq).mpr ⟨b, h⟩)
            have hT2 := ac_T_move hT h1 hq b hB
            refine ac_xdoubt ho a hT2 ?_
            intro su2 hD
            refine ac_ymove h1 ho hq hT (fun h => absurd h (by rintro (h | h); exact a h; exact b h)) (fun _ _ h => absurd h hB) (fun _ _ _ => ⟨rfl, ac_in _ hT2 ?_⟩)
            exact ac_C_doubt hT.2.2.2.2.1 (fun x hx => ⟨rfl, ac_un hx, rfl, fun _ _ => ⟨rfl, rfl, rfl, rfl⟩⟩) hC hD
theorem i_vc_parentOf {k : Nat} {u : SX} {v : SY} (I : i_Rel k u v) (hk : k + 5 ≤ 2560) (v1 : Int32) : wpX_parentOf (fun r => wpY_parentOf (fun r' => r' = r ∧ i_Rel (k + 5) u v) v v1) u v1 := by
  refine ac_el (P := fun u v => wpX_parentOf (fun r => wpY_parentOf (fun r' => r' = r ∧ i_Rel (k + 5) u v) v v1) u v1) ?_ I
  intro gA gD st p cl c al wh t fl gr su pa pd oc wy bf yb hT hC
  have R : i_Rel (k + 5) (gA, gD, st, (ac_xp p), cl, (ac_nn c), al, wh, (ac_mm t), fl, gr, su, pa, pd, oc, wy, bf) (st, (ac_nn p), cl, gr, (ac_nn c), al, wh, (ac_mm t), fl, yb) := ac_in _ hT hC
  unfold wpX_parentOf
  dsimp only
  rcases ac_v1 v1 with hv | rfl | ⟨o, h1, ho, rfl⟩
  · refine ac_preA hv ?_
    unfold wpY_parentOf
    dsimp only
    exact ac_yion hv (br_t rfl ⟨rfl, R⟩)
  · refine br_t (by decide) ?_
    unfold wpY_parentOf
    dsimp only
    exact ac_yio (o := 0) (by omega) (br_f (by decide) (br_t nI_0 ⟨rfl, R⟩))
  · refine ac_preO h1 ho ?_
    have hin : vp_in (nI o) 16 := vp_in_nI ho (by decide)
    refine ⟨hin, ?_⟩
    rw [nI_clamp (show o < 2 ^ 31 by omega), ac_xpn (show o ≠ 0 by omega)]
    have Y : ∀ post : Int32 → Prop, (st o = 0 → post (-3)) → (¬ st o = 0 → post (nI (p o))) → wpY_parentOf post (st, (ac_nn p), cl, gr, (ac_nn c), al, wh, (ac_mm t), fl, yb) (nI o) := by
      intro post K1 K2
      unfold wpY_parentOf
      dsimp only
      refine ac_yio ho (br_f (by decide) (br_f (nI_ne0 (by omega) (by omega)) ⟨hin, ?_⟩))
      rw [nI_clamp (show o < 2 ^ 31 by omega)]
      exact br_c K1 (fun z => ⟨hin, K2 z⟩)
    by_cases a : st o = 0
    · exact br_t a (Y _ (fun _ => ⟨rfl, R⟩) (fun z => absurd a z))
    · exact br_f a ⟨hin, Y _ (fun z => absurd z a) (fun _ => ⟨rfl, R⟩)⟩
theorem ac_C_g {cl' : Nat → Int32} (h : ac_g cl' = ac_g cl) (hC : ac_C st cl p c al wh t fl gr su pa oc) : ac_C st cl' p c al wh t fl gr su pa oc := by
  intro k hk hs hsu pp hpp
  have := hC k hk hs hsu pp hpp
  unfold ac_P ac_A at this ⊢
  rw [h]
  exact this
theorem ac_vb (b : Bool) : vp_nar .boolean (ac_b b) = ac_b b := by cases b <;> rfl
theorem ac_b0 {b : Bool} : ac_b b = 0 ↔ b = false := by cases b <;> decide
theorem ac_xclose51 {post : Int32 → SX → Prop} {o : Nat} {ob nb : Bool} (ho : o < 16) (hs : ¬ st o = 0) (hT : ac_T st p c al wh) (hC : ac_C st cl p c al wh t fl gr su pa oc) (hob : ob = !decide (cl o = 0))
    (K : ∀ su', ac_C st (upd cl o (ac_b nb)) p c al wh t fl gr su' pa oc → post (ac_b ob) (gA, gD, st, (ac_xp p), (upd cl o (ac_b nb)), (ac_nn c), al, wh, (ac_mm t), fl, gr, su', pa, pd, oc, wy, bf)) : wX_close_51 post (nI o) (ac_b ob) (ac_b nb) (nI o) gA gD st (ac_xp p) cl (ac_nn c) al wh (ac_mm t) fl gr su pa pd oc wy bf := by
  have hin : vp_in (nI o) 16 := vp_in_nI ho (by decide)
  have h68 : wX_close_68 post (nI o) (ac_b ob) (ac_b ob) (ac_b nb) gA gD st (ac_xp p) (upd cl o (ac_b nb)) (ac_nn c) al wh (ac_mm t) fl gr su pa pd oc wy bf := by
    unfold wX_close_68
    by_cases e : nb = ob
    · subst e
      refine br_t rfl (K su (ac_C_g ?_ hC))
      funext x
      unfold ac_g
      by_cases hx : x = o
      · subst hx
        rw [pk_us, hob]
        by_cases a : cl x = 0
        · rw [decide_eq_true a]; rfl
        · rw [decide_eq_false a]; rfl
      · rw [pk_un hx]
    · refine br_f (by intro z; apply e; revert z; cases nb <;> cases ob <;> decide) (ac_xdoubt ho hs hT ?_)
      intro su2 hD
      exact K su2 (ac_C_doubt hT.2.2.2.2.1 (fun x hx => ⟨pk_un hx, rfl, rfl, fun _ _ => ⟨rfl, rfl, rfl, rfl⟩⟩) hC hD)
  unfold wX_close_51
  refine ⟨hin, ?_⟩
  rw [nI_clamp (show o < 2 ^ 31 by omega), ac_vb]
  refine nm_e ⟨hin, ?_⟩
  rw [pk_us]
  cases ob with
  | true => exact br_t rfl h68
  | false => exact br_f (by decide) h68
theorem i_vc_close {k : Nat} {u : SX} {v : SY} (I : i_Rel k u v) (hk : k + 5 ≤ 2560) (v1 : Int32) (v2 : Int32) : wpX_close (fun r u' => wpY_close (fun r' v' => r' = r ∧ i_Rel (k + 5) u' v') v v1 v2) u v1 v2 := by
  refine ac_el (P := fun u v => wpX_close (fun r u' => wpY_close (fun r' v' => r' = r ∧ i_Rel (k + 5) u' v') v v1 v2) u v1 v2) ?_ I
  intro gA gD st p cl c al wh t fl gr su pa pd oc wy bf yb hT hC
  unfold wpX_close
  dsimp only
  rcases ac_v0 v1 with hv | ⟨o, ho, rfl⟩
  · refine ac_xbon hv (br_f (by decide) ?_)
    unfold wpY_close
    dsimp only
    exact ac_yion hv (br_t rfl ⟨rfl, ac_in _ hT hC⟩)
  · have hin : vp_in (nI o) 16 := vp_in_nI ho (by decide)
    have Y36 : ∀ (post : Int32 → SY → Prop) (z : Int32) (nb : Bool), nb = !decide (v2 = 0) → post z (st, (ac_nn p), (upd cl o (ac_b nb)), gr, (ac_nn c), al, wh, (ac_mm t), fl, yb) → wY_close_36 post (nI o) v2 z st (ac_nn p) cl gr (ac_nn c) al wh (ac_mm t) fl yb := by
      intro post z nb hnb K
      unfold wY_close_36
      rw [nI_clamp (show o < 2 ^ 31 by omega), ac_vn0, ac_vn1]
      by_cases h : v2 = 0
      · rw [decide_eq_true h] at hnb
        subst hnb
        exact br_t h ⟨hin, nm_e K⟩
      · rw [decide_eq_false h] at hnb
        subst hnb
        exact br_f h ⟨hin, nm_e K⟩
    have Y : ∀ post : Int32 → SY → Prop, (st o = 0 → post (-3) (st, (ac_nn p), cl, gr, (ac_nn c), al, wh, (ac_mm t), fl, yb)) → (¬ st o = 0 → post (ac_b (!decide (cl o = 0))) (st, (ac_nn p), (upd cl o (ac_b (!decide (v2 = 0)))), gr, (ac_nn c), al, wh, (ac_mm t), fl, yb)) → wpY_close post (st, (ac_nn p), cl, gr, (ac_nn c), al, wh, (ac_mm t), fl, yb) (nI o) v2 := by
      intro post K1 K2
      unfold wpY_close
      dsimp only
      refine ac_yio ho (br_f (by decide) ⟨hin, ?_⟩)
      rw [nI_clamp (show o < 2 ^ 31 by omega)]
      refine br_c K1 (fun z => ⟨hin, ?_⟩)
      have K2 := K2 z
      by_cases a : cl o = 0
      · rw [decide_eq_true a] at K2
        exact br_t a (Y36 _ _ _ rfl K2)
      · rw [decide_eq_false a] at K2
        exact br_f a (Y36 _ _ _ rfl K2)
    refine ac_xbo ho (br_t rfl ⟨hin, ?_⟩)
    rw [nI_clamp (show o < 2 ^ 31 by omega)]
    by_cases a : st o = 0
    · exact br_t a (Y _ (fun _ => ⟨rfl, ac_in _ hT hC⟩) (fun z => absurd a z))
    · refine br_f a ⟨hin, ?_⟩
      have X36 : ∀ ob, ob = (!decide (cl o = 0)) → wX_close_36 (fun r u' => wpY_close (fun r' v' => r' = r ∧ i_Rel (k + 5) u' v') (st, (ac_nn p), cl, gr, (ac_nn c), al, wh, (ac_mm t), fl, yb) (nI o) v2) (nI o) v2 (ac_b ob) gA gD st (ac_xp p) cl (ac_nn c) al wh (ac_mm t) fl gr su pa pd oc wy bf := by
        intro ob hob
        have h51 := ac_xclose51 (post := fun r u' => wpY_close (fun r' v' => r' = r ∧ i_Rel (k + 5) u' v') (st, (ac_nn p), cl, gr, (ac_nn c), al, wh, (ac_mm t), fl, yb) (nI o) v2) (gA := gA) (gD := gD) (pd := pd) (wy := wy) (bf := bf) (ob := ob) (nb := !decide (v2 = 0)) ho a hT hC hob (by
          intro su2 hC2
          refine Y _ (fun z => absurd z a) (fun _ => ⟨?_, ac_in _ hT hC2⟩)
          rw [hob])
        unfold wX_close_36
        by_cases h : v2 = 0
        · rw [decide_eq_true h] at h51
          exact br_t h h51
        · rw [decide_eq_false h] at h51
          exact br_f h h51
      by_cases b : cl o = 0
      · exact br_t b (X36 false (by rw [decide_eq_true b]; rfl))
      · exact br_f b (X36 true (by rw [decide_eq_false b]; rfl))
end
end
section
/-! owed: member, entry, drop, entries -/
theorem ac_orand (x b : Int32) : (x &&& (b ^^^ (-1))) ||| b = x ||| b := by
  apply b_ext
  intro i hi
  rw [b_or, b_and, b_xor, b_m1 i hi, b_or]
  cases bt x i <;> cases bt b i <;> rfl
theorem ac_uu (f : Nat → Int32) (k : Nat) (x y : Int32) : upd (upd f k x) k y = upd f k y := by
  funext j
  by_cases e : j = k
  · rw [e, pk_us, pk_us]
  · rw [pk_un e, pk_un e, pk_un e]
section
variable {gA gD : Int32} {st cl al wh fl gr su pa pd oc wy bf yb : Nat → Int32} {p c : Nat → Nat} {t : Nat → Nat → Bool}
theorem i_vc_member {k : Nat} {u : SX} {v : SY} (I : i_Rel k u v) (hk : k + 5 ≤ 2560) (v1 : Int32) (v2 : Int32) (v3 : Int32) : wpX_member (fun r u' => wpY_member (fun r' v' => r' = r ∧ i_Rel (k + 5) u' v') v v1 v2 v3) u v1 v2 v3 := by
  refine ac_el (P := fun u v => wpX_member (fun r u' => wpY_member (fun r' v' => r' = r ∧ i_Rel (k + 5) u' v') v v1 v2 v3) u v1 v2 v3) ?_ I
  intro gA gD st p cl c al wh t fl gr su pa pd oc wy bf yb hT hC
  unfold wpX_member
  dsimp only
  by_cases h6 : v1 < 6
  · refine br_t h6 ?_
    unfold wpY_member
    dsimp only
    exact br_t h6 ⟨rfl, ac_in _ hT hC⟩
  refine br_f h6 ?_
  by_cases h7 : 7 < v1
  · refine br_t h7 ?_
    unfold wpY_member
    dsimp only
    exact br_f h6 (br_t h7 ⟨rfl, ac_in _ hT hC⟩)
  refine br_f h7 ?_
  rcases ac_v6 v2 with hv | ⟨q, hq, rfl⟩
  · refine ac_xbpn hv (br_f (by decide) ?_)
    unfold wpY_member
    dsimp only
    exact br_f h6 (br_f h7 (ac_yipn hv (br_t rfl ⟨rfl, ac_in _ hT hC⟩)))
  have hin : vp_in (v1 - 6) 2 := ac_v67 (Int32.not_lt.mp h6) (Int32.not_lt.mp h7)
  have Y : ∀ post : Int32 → SY → Prop, (v3 = 0 → post (((gr (v1 - 6).toNatClampNeg) >>> (nI q &&& 31)) &&& 1) (st, (ac_nn p), cl, (upd gr (v1 - 6).toNatClampNeg ((gr (v1 - 6).toNatClampNeg) &&& (((1 : Int32) <<< (nI q &&& 31)) ^^^ (-1)))), (ac_nn c), al, wh, (ac_mm t), fl, yb)) →
      (¬ v3 = 0 → post (((gr (v1 - 6).toNatClampNeg) >>> (nI q &&& 31)) &&& 1) (st, (ac_nn p), cl, (upd gr (v1 - 6).toNatClampNeg ((gr (v1 - 6).toNatClampNeg) ||| ((1 : Int32) <<< (nI q &&& 31)))), (ac_nn c), al, wh, (ac_mm t), fl, yb)) → wpY_member post (st, (ac_nn p), cl, gr, (ac_nn c), al, wh, (ac_mm t), fl, yb) v1 (nI q) v3 := by
    intro post K1 K2
    unfold wpY_member
    dsimp only
    refine br_f h6 (br_f h7 (ac_yip hq (br_f (by decide) ⟨hin, nm_e ?_⟩)))
    exact br_c (fun z => ⟨hin, hin, nm_e (K1 z)⟩) (fun z => ⟨hin, hin, nm_e (K2 z)⟩)
  refine ac_xbp hq (br_t rfl ⟨hin, nm_e ⟨hin, hin, nm_e ?_⟩⟩)
  have hC0 : ∀ gr' su', (∀ k, k < 16 → su' k = 0) → ac_C st cl p c al wh t fl gr' su' pa oc := by
    intro gr' su' h k hk _ hsu
    exact absurd (h k hk) hsu
  by_cases h : v3 = 0
  · refine br_t h ?_
    unfold wX_member_87
    refine ac_xdoubtAll ?_
    intro su2 h2
    exact Y _ (fun _ => ⟨rfl, ac_in _ hT (hC0 _ _ h2)⟩) (fun z => absurd h z)
  · refine br_f h ⟨hin, hin, ?_⟩
    rw [pk_us, ac_orand, ac_uu]
    refine nm_e ?_
    unfold wX_member_87
    refine ac_xdoubtAll ?_
    intro su2 h2
    exact Y _ (fun z => absurd z h) (fun _ => ⟨rfl, ac_in _ hT (hC0 _ _ h2)⟩)
theorem ac_xentry99 {post : Int32 → SX → Prop} {o : Nat} {x2 x3 x4 : Int32} {f : Nat → Bool} {b : Bool} (ho : o < 16) (hs : ¬ st o = 0) (hc : c o < 4) (h3 : x3 = ac_mk f)
    (hT : ac_T st p (ac_u c o (c o + 1)) (upd al (o * 4 + c o) (ac_b b)) (upd wh (o * 4 + c o) x2))
    (K : ∀ su', ac_D st p o su su' → post (nI (c o + 1)) (gA, gD, st, (ac_xp p), cl, (ac_nn (ac_u c o (c o + 1))), (upd al (o * 4 + c o) (ac_b b)), (upd wh (o * 4 + c o) x2), (ac_mm (ac_u t (o * 4 + c o) f)), (upd fl (o * 4 + c o) (x4 &&& 7)), gr, su', pa, pd, oc, wy, bf)) :
    wX_entry_99 post (nI o) x2 x3 x4 (nI (o * 4 + c o)) (ac_b b) (nI (o * 4 + c o)) gA gD st (ac_xp p) cl (ac_nn c) al wh (ac_mm t) fl gr su pa pd oc wy bf := by
  have hin : vp_in (nI o) 16 := vp_in_nI ho (by decide)
  have hi2 : vp_in (nI (o * 4 + c o)) 64 := vp_in_nI (by omega) (by decide)
  subst h3
  unfold wX_entry_99
  rw [nI_clamp (show o * 4 + c o < 2 ^ 31 by omega), nI_clamp (show o < 2 ^ 31 by omega), ac_vb, ac_u_mm, show ac_nn c o + 1 = nI (c o + 1) from nI_1 _, ac_u_nn]
  refine ⟨hi2, nm_e ⟨hi2, nm_e ⟨hi2, nm_e ⟨hi2, nm_e ⟨hin, hin, nm_e ?_⟩⟩⟩⟩⟩
  refine ac_xdoubt ho hs hT ?_
  intro su2 hD
  refine ⟨hin, ?_⟩
  rw [show ac_nn (ac_u c o (c o + 1)) o = nI (c o + 1) by show nI (ac_u c o (c o + 1) o) = _; rw [ac_us]]
  exact K su2 hD
theorem ac_yentry97 {post : Int32 → SY → Prop} {o : Nat} {x2 x3 x4 : Int32} {f : Nat → Bool} {b : Bool} (ho : o < 16) (hc : c o < 4) (h3 : x3 = ac_mk f)
    (K : post (nI (c o + 1)) (st, (ac_nn p), cl, gr, (ac_nn (ac_u c o (c o + 1))), (upd al (o * 4 + c o) (ac_b b)), (upd wh (o * 4 + c o) x2), (ac_mm (ac_u t (o * 4 + c o) f)), (upd fl (o * 4 + c o) (x4 &&& 7)), yb)) :
    wY_entry_97 post (nI o) x2 x3 x4 (nI (o * 4 + c o)) (ac_b b) (nI (o * 4 + c o)) st (ac_nn p) cl gr (ac_nn c) al wh (ac_mm t) fl yb := by
  have hin : vp_in (nI o) 16 := vp_in_nI ho (by decide)
  have hi2 : vp_in (nI (o * 4 + c o)) 64 := vp_in_nI (by omega) (by decide)
  subst h3
  unfold wY_entry_97
  rw [nI_clamp (show o * 4 + c o < 2 ^ 31 by omega), nI_clamp (show o < 2 ^ 31 by omega), ac_vb, ac_u_mm, show ac_nn c o + 1 = nI (c o + 1) from nI_1 _, ac_u_nn]
  refine ⟨hi2, nm_e ⟨hi2, nm_e ⟨hi2, nm_e ⟨hi2, nm_e ⟨hin, hin, nm_e ⟨hin, ?_⟩⟩⟩⟩⟩⟩
  rw [show ac_nn (ac_u c o (c o + 1)) o = nI (c o + 1) by show nI (ac_u c o (c o + 1) o) = _; rw [ac_us]]
  exact K
theorem ac_T_entry {o : Nat} {x2 : Int32} {b : Bool} (hT : ac_T st p c al wh) (hc : c o < 4) (h7 : x2 ≤ 7) : ac_T st p (ac_u c o (c o + 1)) (upd al (o * 4 + c o) (ac_b b)) (upd wh (o * 4 + c o) x2) := by
  refine ⟨hT.1, hT.2.1, hT.2.2.1, hT.2.2.2.1, ?_, ?_, ?_⟩
  · intro k
    by_cases e : k = o
    · rw [e, ac_us]; omega
    · rw [ac_un e]; exact hT.2.2.2.2.1 k
  · intro k
    by_cases e : k = o * 4 + c o
    · rw [e, pk_us]
      cases b
      · exact Or.inl rfl
      · exact Or.inr rfl
    · rw [pk_un e]; exact hT.2.2.2.2.2.1 k
  · intro k h
    by_cases e : k = o * 4 + c o
    · rw [e, pk_us] at h ⊢
      exact ac_v67 h h7
    · rw [pk_un e] at h ⊢
      exact hT.2.2.2.2.2.2 k h
theorem i_vc_entry {k : Nat} {u : SX} {v : SY} (I : i_Rel k u v) (hk : k + 5 ≤ 2560) (v1 : Int32) (v2 : Int32) (v3 : Int32) (v4 : Int32) : wpX_entry (fun r u' => wpY_entry (fun r' v' => r' = r ∧ i_Rel (k + 5) u' v') v v1 v2 v3 v4) u v1 v2 v3 v4 := by
  refine ac_el (P := fun u v => wpX_entry (fun r u' => wpY_entry (fun r' v' => r' = r ∧ i_Rel (k + 5) u' v') v v1 v2 v3 v4) u v1 v2 v3 v4) ?_ I
  intro gA gD st p cl c al wh t fl gr su pa pd oc wy bf yb hT hC
  have R : ∀ z : Int32, z = z ∧ i_Rel (k + 5) (gA, gD, st, (ac_xp p), cl, (ac_nn c), al, wh, (ac_mm t), fl, gr, su, pa, pd, oc, wy, bf) (st, (ac_nn p), cl, gr, (ac_nn c), al, wh, (ac_mm t), fl, yb) := fun z => ⟨rfl, ac_in _ hT hC⟩
  unfold wpX_entry
  dsimp only
  rcases ac_v0 v1 with hv | ⟨o, ho, rfl⟩
  · refine ac_xbon hv (br_f (by decide) ?_)
    unfold wpY_entry
    dsimp only
    exact ac_yion hv (br_t rfl (R _))
  have hin : vp_in (nI o) 16 := vp_in_nI ho (by decide)
  refine ac_xbo ho (br_t rfl ?_)
  by_cases a0 : v2 < 0
  · refine br_t a0 ?_
    unfold wpY_entry
    dsimp only
    exact ac_yio ho (br_f (by decide) (br_t a0 (R _)))
  refine br_f a0 ?_
  by_cases a7 : v2 ≤ 7
  case neg =>
    refine br_f a7 ?_
    unfold wpY_entry
    dsimp only
    exact ac_yio ho (br_f (by decide) (br_f a0 (br_t (Int32.not_le.mp a7) (R _))))
  refine br_t a7 ?_
  have a7n : ¬ 7 < v2 := Int32.not_lt.mpr a7
  by_cases b0 : v3 < 0
  · refine br_t b0 ?_
    unfold wpY_entry
    dsimp only
    exact ac_yio ho (br_f (by decide) (br_f a0 (br_f a7n (br_t b0 (R _)))))
  refine br_f b0 ?_
  by_cases b15 : 15 < v3
  · refine br_t b15 ?_
    unfold wpY_entry
    dsimp only
    exact ac_yio ho (br_f (by decide) (br_f a0 (br_f a7n (br_f b0 (br_t b15 (R _))))))
  refine br_f b15 ?_
  by_cases d0 : v4 < 0
  · refine br_t d0 ?_
    unfold wpY_entry
    dsimp only
    exact ac_yio ho (br_f (by decide) (br_f a0 (br_f a7n (br_f b0 (br_f b15 (br_t d0 (R _)))))))
  refine br_f d0 ?_
  by_cases d15 : v4 ≤ 15
  case neg =>
    refine br_f d15 ?_
    unfold wpY_entry
    dsimp only
    exact ac_yio ho (br_f (by decide) (br_f a0 (br_f a7n (br_f b0 (br_f b15 (br_f d0 (br_f d15 (R _))))))))
  refine br_t d15 ⟨hin, ?_⟩
  have Y : ∀ post : Int32 → SY → Prop, (st o = 0 → post (-3) (st, (ac_nn p), cl, gr, (ac_nn c), al, wh, (ac_mm t), fl, yb)) → (¬ st o = 0 → c o = 4 → post (-2) (st, (ac_nn p), cl, gr, (ac_nn c), al, wh, (ac_mm t), fl, yb)) → (¬ st o = 0 → ¬ c o = 4 → ∀ b : Bool, b = !decide (v4 < 8) → wY_entry_97 post (nI o) v2 v3 v4 (nI (o * 4 + c o)) (ac_b b) (nI (o * 4 + c o)) st (ac_nn p) cl gr (ac_nn c) al wh (ac_mm t) fl yb) → wpY_entry post (st, (ac_nn p), cl, gr, (ac_nn c), al, wh, (ac_mm t), fl, yb) (nI o) v2 v3 v4 := by
    intro post K1 K2 K3
    unfold wpY_entry
    dsimp only
    refine ac_yio ho (br_f (by decide) (br_f a0 (br_f a7n (br_f b0 (br_f b15 (br_f d0 (br_t d15 ⟨hin, ?_⟩)))))))
    rw [nI_clamp (show o < 2 ^ 31 by omega), show ac_nn c o = nI (c o) from rfl]
    refine br_c K1 (fun z => ⟨hin, ?_⟩)
    have hc4 := hT.2.2.2.2.1 o
    by_cases e : c o = 4
    · exact br_t (by rw [e]; rfl) (K2 z e)
    · refine br_f (fun h => e ((nI_eq (b := 4) (by omega) (by omega)).mp h)) ⟨hin, nm_r (e' := nI (o * 4 + c o)) ?_ ?_⟩
      · show nI 4 * nI o + nI (c o) = _
        rw [pk_mul, nI_add, Nat.mul_comm]
      · obtain ⟨j, hj, rfl⟩ := nI_of d0
        have K3 := K3 z e
        by_cases h8 : j < 8
        · have l8 : nI j < 8 := nI_lt (b := 8) h8 (by decide)
          rw [decide_eq_true l8] at K3
          exact br_t (nI_le (b := 7) (show j ≤ 7 by omega) (by decide)) (K3 false rfl)
        · have l8 : ¬ nI j < 8 := nI_nlt (b := 8) (show 8 ≤ j by omega) hj
          rw [decide_eq_false l8] at K3
          exact br_f (nI_ge (a := 7) (show 7 < j by omega) hj) (K3 true rfl)
  rw [nI_clamp (show o < 2 ^ 31 by omega), show ac_nn c o = nI (c o) from rfl]
  by_cases a : st o = 0
  · exact br_t a (Y _ (fun _ => R _) (fun z => absurd a z) (fun z => absurd a z))
  refine br_f a ⟨hin, ?_⟩
  have hc4 := hT.2.2.2.2.1 o
  by_cases e : c o = 4
  · exact br_t (by rw [e]; rfl) (Y _ (fun z => absurd z a) (fun _ _ => R _) (fun _ z => absurd e z))
  have hc : c o < 4 := by omega
  refine br_f (fun h => e ((nI_eq (b := 4) (by omega) (by omega)).mp h)) ⟨hin, nm_r (e' := nI (o * 4 + c o)) ?_ ?_⟩
  · show nI o * nI 4 + nI (c o) = _
    rw [pk_mul, nI_add]
  obtain ⟨f, hf⟩ : ∃ f, v3 = ac_mk f := by
    obtain ⟨j, hj, rfl⟩ := nI_of b0
    have : j < 16 := by
      by_cases z : j < 16
      · exact z
      · exact absurd (nI_lt (a := 15) (b := j) (by omega) hj) b15
    exact ⟨_, ac_mk_nat this⟩
  have go : ∀ b : Bool, b = !decide (v4 < 8) → wX_entry_99 (fun r u' => wpY_entry (fun r' v' => r' = r ∧ i_Rel (k + 5) u' v') (st, (ac_nn p), cl, gr, (ac_nn c), al, wh, (ac_mm t), fl, yb) (nI o) v2 v3 v4) (nI o) v2 v3 v4 (nI (o * 4 + c o)) (ac_b b) (nI (o * 4 + c o)) gA gD st (ac_xp p) cl (ac_nn c) al wh (ac_mm t) fl gr su pa pd oc wy bf := by
    intro b hb
    have hT2 := ac_T_entry (b := b) hT hc a7
    refine ac_xentry99 ho a hc hf hT2 ?_
    intro su2 hD
    refine Y _ (fun z => absurd z a) (fun _ z => absurd z e) (fun _ _ b2 hb2 => ?_)
    rw [hb2, ← hb]
    refine ac_yentry97 ho hc hf ⟨rfl, ac_in _ hT2 ?_⟩
    refine ac_C_doubt (o := o) hT.2.2.2.2.1 ?_ hC hD
    intro x hx
    refine ⟨rfl, rfl, ac_un hx, fun i hi => ?_⟩
    have hne : x * 4 + i ≠ o * 4 + c o := by omega
    exact ⟨pk_un hne, pk_un hne, ac_un hne, pk_un hne⟩
  by_cases l8 : v4 < 8
  · rw [decide_eq_true l8] at go
    exact br_t l8 (go false rfl)
  · rw [decide_eq_false l8] at go
    exact br_f l8 (go true rfl)
theorem i_vc_drop {k : Nat} {u : SX} {v : SY} (I : i_Rel k u v) (hk : k + 5 ≤ 2560) (v1 : Int32) (v2 : Int32) : wpX_drop (fun r u' => wpY_drop (fun r' v' => r' = r ∧ i_Rel (k + 5) u' v') v v1 v2) u v1 v2 := by
  refine ac_el (P := fun u v => wpX_drop (fun r u' => wpY_drop (fun r' v' => r' = r ∧ i_Rel (k + 5) u' v') v v1 v2) u v1 v2) ?_ I
  intro gA gD st p cl c al wh t fl gr su pa pd oc wy bf yb hT hC
  have R : ∀ z : Int32, z = z ∧ i_Rel (k + 5) (gA, gD, st, (ac_xp p), cl, (ac_nn c), al, wh, (ac_mm t), fl, gr, su, pa, pd, oc, wy, bf) (st, (ac_nn p), cl, gr, (ac_nn c), al, wh, (ac_mm t), fl, yb) := fun z => ⟨rfl, ac_in _ hT hC⟩
  unfold wpX_drop
  dsimp only
  rcases ac_v0 v1 with hv | ⟨o, ho, rfl⟩
  · refine ac_xbon hv (br_f (by decide) ?_)
    unfold wpY_drop
    dsimp only
    exact ac_yion hv (br_t rfl (R _))
  have hin : vp_in (nI o) 16 := vp_in_nI ho (by decide)
  have hc4 := hT.2.2.2.2.1 o
  have Y : ∀ post : Int32 → SY → Prop, (st o = 0 → post (-3) (st, (ac_nn p), cl, gr, (ac_nn c), al, wh, (ac_mm t), fl, yb)) → (¬ st o = 0 → v2 < 0 → post (-3) (st, (ac_nn p), cl, gr, (ac_nn c), al, wh, (ac_mm t), fl, yb)) → (¬ st o = 0 → ¬ v2 < 0 → ¬ v2 < nI (c o) → post (-3) (st, (ac_nn p), cl, gr, (ac_nn c), al, wh, (ac_mm t), fl, yb)) →
      (¬ st o = 0 → ¬ v2 < 0 → v2 < nI (c o) → ∃ n42 : Nat, wY_drop_42 post (nI o) n42 (4 * nI o + v2) st (ac_nn p) cl gr (ac_nn c) al wh (ac_mm t) fl yb) → wpY_drop post (st, (ac_nn p), cl, gr, (ac_nn c), al, wh, (ac_mm t), fl, yb) (nI o) v2 := by
    intro post K1 K2 K3 K4
    unfold wpY_drop
    dsimp only
    refine ac_yio ho (br_f (by decide) ⟨hin, ?_⟩)
    rw [nI_clamp (show o < 2 ^ 31 by omega)]
    exact br_c K1 (fun z => br_c (K2 z) (fun y => ⟨hin, br_c (fun w => nm_e (K4 z y w)) (K3 z y)⟩))
  refine ac_xbo ho (br_t rfl ⟨hin, ?_⟩)
  rw [nI_clamp (show o < 2 ^ 31 by omega), show ac_nn c o = nI (c o) from rfl]
  by_cases a : st o = 0
  · exact br_t a (Y _ (fun _ => R _) (fun z => absurd a z) (fun z => absurd a z) (fun z => absurd a z))
  refine br_f a ?_
  by_cases b : v2 < 0
  · exact br_t b (Y _ (fun z => absurd z a) (fun _ _ => R _) (fun _ z => absurd b z) (fun _ z => absurd b z))
  refine br_f b ⟨hin, ?_⟩
  by_cases d : v2 < nI (c o)
  case neg =>
    exact br_f d (Y _ (fun z => absurd z a) (fun _ z => absurd z b) (fun _ _ _ => R _) (fun _ _ z => absurd z d))
  obtain ⟨i, hi, rfl⟩ := nI_of b
  have hic : i < c o := (nI_ltI hi (by omega)).mp d
  have e4 : nI o * 4 + nI i = nI (o * 4 + i) := by
    show nI o * nI 4 + nI i = _
    rw [pk_mul, nI_add]
  have e4' : 4 * nI o + nI i = nI (o * 4 + i) := by
    show nI 4 * nI o + nI i = _
    rw [pk_mul, nI_add, Nat.mul_comm]
  obtain ⟨m, hm⟩ : ∃ m, i + m + 1 = c o := ⟨c o - i - 1, by omega⟩
  have hT2 : ac_T st p (ac_u c o (c o - 1)) (ac_sh al (o * 4 + i) m) (ac_sh wh (o * 4 + i) m) := by
    refine ⟨hT.1, hT.2.1, hT.2.2.1, hT.2.2.2.1, ?_, ?_, ?_⟩
    · intro k
      by_cases e : k = o
      · rw [e, ac_us]; omega
      · rw [ac_un e]; exact hT.2.2.2.2.1 k
    · exact ac_sh_all (Q := fun z => z = 0 ∨ z = 1) m _ al hT.2.2.2.2.2.1
    · exact ac_sh_all (Q := fun z => 6 ≤ z → vp_in (z - 6) 2) m _ wh hT.2.2.2.2.2.2
  refine br_t d (nm_r e4 ⟨m + 1, ?_⟩)
  refine ac_xdrop42 ho a (by omega) hc4 m i (m + 1) al wh t fl hm (by omega) hT.2.2.2.2.2.1 hT2 ?_
  intro su2 hD
  refine Y _ (fun z => absurd z a) (fun _ z => absurd z b) (fun _ _ z => absurd d z) (fun _ _ _ => ⟨m + 1, ?_⟩)
  rw [e4']
  refine ac_ydrop42 ho (by omega) hc4 m i (m + 1) al wh t fl hm (by omega) hT.2.2.2.2.2.1 ⟨rfl, ac_in _ hT2 ?_⟩
  refine ac_C_doubt (o := o) hT.2.2.2.2.1 ?_ hC hD
  intro x hx
  refine ⟨rfl, rfl, ac_un hx, fun i2 hi2 => ?_⟩
  have hne : x * 4 + i2 < o * 4 + i ∨ o * 4 + i + m ≤ x * 4 + i2 := by omega
  exact ⟨ac_sh_out m _ al _ hne, ac_sh_out m _ wh _ hne, ac_sh_out m _ t _ hne, ac_sh_out m _ fl _ hne⟩
theorem i_vc_entries {k : Nat} {u : SX} {v : SY} (I : i_Rel k u v) (hk : k + 5 ≤ 2560) (v1 : Int32) : wpX_entries (fun r => wpY_entries (fun r' => r' = r ∧ i_Rel (k + 5) u v) v v1) u v1 := by
  refine ac_el (P := fun u v => wpX_entries (fun r => wpY_entries (fun r' => r' = r ∧ i_Rel (k + 5) u v) v v1) u v1) ?_ I
  intro gA gD st p cl c al wh t fl gr su pa pd oc wy bf yb hT hC
  have R : i_Rel (k + 5) (gA, gD, st, (ac_xp p), cl, (ac_nn c), al, wh, (ac_mm t), fl, gr, su, pa, pd, oc, wy, bf) (st, (ac_nn p), cl, gr, (ac_nn c), al, wh, (ac_mm t), fl, yb) := ac_in _ hT hC
  unfold wpX_entries
  dsimp only
  rcases ac_v0 v1 with hv | ⟨o, ho, rfl⟩
  · refine ac_xbon hv (br_f (by decide) ?_)
    unfold wpY_entries
    dsimp only
    exact ac_yion hv (br_t rfl ⟨rfl, R⟩)
  have hin : vp_in (nI o) 16 := vp_in_nI ho (by decide)
  have Y : ∀ post : Int32 → Prop, (st o = 0 → post (-3)) → (¬ st o = 0 → post (nI (c o))) → wpY_entries post (st, (ac_nn p), cl, gr, (ac_nn c), al, wh, (ac_mm t), fl, yb) (nI o) := by
    intro post K1 K2
    unfold wpY_entries
    dsimp only
    refine ac_yio ho (br_f (by decide) ⟨hin, ?_⟩)
    rw [nI_clamp (show o < 2 ^ 31 by omega)]
    exact br_c K1 (fun z => ⟨hin, K2 z⟩)
  refine ac_xbo ho (br_t rfl ⟨hin, ?_⟩)
  rw [nI_clamp (show o < 2 ^ 31 by omega)]
  by_cases a : st o = 0
  · exact br_t a (Y _ (fun _ => ⟨rfl, R⟩) (fun z => absurd a z))
  · exact br_f a ⟨hin, Y _ (fun z => absurd z a) (fun _ => ⟨rfl, R⟩)⟩
end
end
section
/-! owed: rights, may, who, count, reach, stir -/
section
variable {st cl al wh fl gr yb : Nat → Int32} {p c : Nat → Nat} {t : Nat → Nat → Bool}
theorem ac_ymay {post : Int32 → Prop} {o pp r : Nat} (ho : o < 16) (hp : pp < 6) (hr : r < 4) (hT : ac_T st p c al wh) (K : post (ac_b (!decide (st o = 0) && ac_A cl p c al wh t fl gr pp o r))) : wpY_may post (st, (ac_nn p), cl, gr, (ac_nn c), al, wh, (ac_mm t), fl, yb) (nI o) (nI pp) (nI r) := by
  unfold wpY_may
  dsimp only
  refine ac_yio ho (br_f (by decide) (ac_yip hp (br_f (by decide) (ac_yir hr (br_f (by decide) ⟨vp_in_nI ho (by decide), ?_⟩)))))
  rw [nI_clamp (show o < 2 ^ 31 by omega)]
  by_cases hs : st o = 0
  · rw [decide_eq_true hs] at K
    exact br_t hs K
  · rw [decide_eq_false hs] at K
    refine br_f hs (ac_yallow ho hr hT ?_)
    cases h : ac_A cl p c al wh t fl gr pp o r with
    | true =>
      rw [h] at K
      exact br_f ac_b1 K
    | false =>
      rw [h] at K
      exact br_t rfl K
end
theorem i_vc_rights {k : Nat} {u : SX} {v : SY} (I : i_Rel k u v) (hk : k + 5 ≤ 2560) (v1 : Int32) (v2 : Int32) : wpX_rights (fun r u' => wpY_rights (fun r' => r' = r ∧ i_Rel (k + 5) u' v) v v1 v2) u v1 v2 := by
  refine ac_el (P := fun u v => wpX_rights (fun r u' => wpY_rights (fun r' => r' = r ∧ i_Rel (k + 5) u' v) v v1 v2) u v1 v2) ?_ I
  intro gA gD st p cl c al wh t fl gr su pa pd oc wy bf yb hT hC
  have R : i_Rel (k + 5) (gA, gD, st, (ac_xp p), cl, (ac_nn c), al, wh, (ac_mm t), fl, gr, su, pa, pd, oc, wy, bf) (st, (ac_nn p), cl, gr, (ac_nn c), al, wh, (ac_mm t), fl, yb) := ac_in _ hT hC
  rcases ac_v0 v1 with hv | ⟨o, ho, rfl⟩
  · unfold wpX_rights
    dsimp only
    refine ac_xbon hv (br_f (by decide) ?_)
    unfold wpY_rights
    dsimp only
    exact ac_yion hv (br_t rfl ⟨rfl, R⟩)
  rcases ac_v6 v2 with hv | ⟨q, hq, rfl⟩
  · unfold wpX_rights
    dsimp only
    refine ac_xbo ho (br_t rfl (ac_xbpn hv (br_f (by decide) ?_)))
    unfold wpY_rights
    dsimp only
    exact ac_yio ho (br_f (by decide) (ac_yipn hv (br_t rfl ⟨rfl, R⟩)))
  refine ac_xrights ho hq hT hC ?_
  intro gA2 gD2 su2 pa2 pd2 oc2 wy2 hC2
  exact ac_yrights ho hq hT ⟨rfl, ac_in _ hT hC2⟩
theorem i_vc_may {k : Nat} {u : SX} {v : SY} (I : i_Rel k u v) (hk : k + 5 ≤ 2560) (v1 : Int32) (v2 : Int32) (v3 : Int32) : wpX_may (fun r u' => wpY_may (fun r' => r' = r ∧ i_Rel (k + 5) u' v) v v1 v2 v3) u v1 v2 v3 := by
  refine ac_el (P := fun u v => wpX_may (fun r u' => wpY_may (fun r' => r' = r ∧ i_Rel (k + 5) u' v) v v1 v2 v3) u v1 v2 v3) ?_ I
  intro gA gD st p cl c al wh t fl gr su pa pd oc wy bf yb hT hC
  have R : i_Rel (k + 5) (gA, gD, st, (ac_xp p), cl, (ac_nn c), al, wh, (ac_mm t), fl, gr, su, pa, pd, oc, wy, bf) (st, (ac_nn p), cl, gr, (ac_nn c), al, wh, (ac_mm t), fl, yb) := ac_in _ hT hC
  rcases ac_v0 v1 with hv | ⟨o, ho, rfl⟩
  · have Y : wpY_may (fun r' => r' = 0 ∧ i_Rel (k + 5) (gA, gD, st, (ac_xp p), cl, (ac_nn c), al, wh, (ac_mm t), fl, gr, su, pa, pd, oc, wy, bf) (st, (ac_nn p), cl, gr, (ac_nn c), al, wh, (ac_mm t), fl, yb)) (st, (ac_nn p), cl, gr, (ac_nn c), al, wh, (ac_mm t), fl, yb) v1 v2 v3 := by
      unfold wpY_may
      dsimp only
      exact ac_yion hv (br_t rfl ⟨rfl, R⟩)
    unfold wpX_may
    dsimp only
    refine br_c (fun _ => Y) (fun _ => br_c (fun _ => ?_) (fun _ => Y))
    unfold wpX_rights
    dsimp only
    exact ac_xbon hv (br_f (by decide) (br_t (by decide) Y))
  rcases ac_v6 v2 with hv | ⟨q, hq, rfl⟩
  · have Y : wpY_may (fun r' => r' = 0 ∧ i_Rel (k + 5) (gA, gD, st, (ac_xp p), cl, (ac_nn c), al, wh, (ac_mm t), fl, gr, su, pa, pd, oc, wy, bf) (st, (ac_nn p), cl, gr, (ac_nn c), al, wh, (ac_mm t), fl, yb)) (st, (ac_nn p), cl, gr, (ac_nn c), al, wh, (ac_mm t), fl, yb) (nI o) v2 v3 := by
      unfold wpY_may
      dsimp only
      exact ac_yio ho (br_f (by decide) (ac_yipn hv (br_t rfl ⟨rfl, R⟩)))
    unfold wpX_may
    dsimp only
    refine br_c (fun _ => Y) (fun _ => br_c (fun _ => ?_) (fun _ => Y))
    unfold wpX_rights
    dsimp only
    exact ac_xbo ho (br_t rfl (ac_xbpn hv (br_f (by decide) (br_t (by decide) Y))))
  rcases ac_v4 v3 with hv | ⟨r, hr, rfl⟩
  · have Y : wpY_may (fun r' => r' = 0 ∧ i_Rel (k + 5) (gA, gD, st, (ac_xp p), cl, (ac_nn c), al, wh, (ac_mm t), fl, gr, su, pa, pd, oc, wy, bf) (st, (ac_nn p), cl, gr, (ac_nn c), al, wh, (ac_mm t), fl, yb)) (st, (ac_nn p), cl, gr, (ac_nn c), al, wh, (ac_mm t), fl, yb) (nI o) (nI q) v3 := by
      unfold wpY_may
      dsimp only
      exact ac_yio ho (br_f (by decide) (ac_yip hq (br_f (by decide) (ac_yirn hv (br_t rfl ⟨rfl, R⟩)))))
    unfold wpX_may
    dsimp only
    exact ac_pr4A hv Y
  refine ac_xmay ho hq hr hT hC ?_
  intro gA2 gD2 su2 pa2 pd2 oc2 wy2 hC2
  exact ac_ymay ho hq hr hT ⟨rfl, ac_in _ hT hC2⟩
theorem i_vc_who {k : Nat} {u : SX} {v : SY} (I : i_Rel k u v) (hk : k + 5 ≤ 2560) (v1 : Int32) (v2 : Int32) : wpX_who (fun r u' => wpY_who (fun r' => r' = r ∧ i_Rel (k + 5) u' v) v v1 v2) u v1 v2 := by
  refine ac_el (P := fun u v => wpX_who (fun r u' => wpY_who (fun r' => r' = r ∧ i_Rel (k + 5) u' v) v v1 v2) u v1 v2) ?_ I
  intro gA gD st p cl c al wh t fl gr su pa pd oc wy bf yb hT hC
  have R : i_Rel (k + 5) (gA, gD, st, (ac_xp p), cl, (ac_nn c), al, wh, (ac_mm t), fl, gr, su, pa, pd, oc, wy, bf) (st, (ac_nn p), cl, gr, (ac_nn c), al, wh, (ac_mm t), fl, yb) := ac_in _ hT hC
  unfold wpX_who
  dsimp only
  rcases ac_v0 v1 with hv | ⟨o, ho, rfl⟩
  · refine ac_xbon hv (br_f (by decide) ?_)
    unfold wpY_who
    dsimp only
    exact ac_yion hv (br_t rfl ⟨rfl, R⟩)
  refine ac_xbo ho (br_t rfl ?_)
  rcases ac_v4 v2 with hv | ⟨r, hr, rfl⟩
  · refine ac_pr4A hv ?_
    unfold wpY_who
    dsimp only
    exact ac_yio ho (br_f (by decide) (ac_yirn hv (br_t rfl ⟨rfl, R⟩)))
  have hin : vp_in (nI o) 16 := vp_in_nI ho (by decide)
  refine ac_pr4O hr ⟨hin, ?_⟩
  rw [nI_clamp (show o < 2 ^ 31 by omega)]
  have Y : ∀ post : Int32 → Prop, (st o = 0 → post (-3)) → (¬ st o = 0 → post (ac_fo (fun pp => ac_A cl p c al wh t fl gr pp o r) 6 0 0)) → wpY_who post (st, (ac_nn p), cl, gr, (ac_nn c), al, wh, (ac_mm t), fl, yb) (nI o) (nI r) := by
    intro post K1 K2
    unfold wpY_who
    dsimp only
    refine ac_yio ho (br_f (by decide) (ac_yir hr (br_f (by decide) ⟨hin, ?_⟩)))
    rw [nI_clamp (show o < 2 ^ 31 by omega)]
    exact br_c K1 (fun z => ⟨7, ac_ywho35 ho hr hT 6 0 0 7 (by omega) (by omega) (K2 z)⟩)
  by_cases a : st o = 0
  · exact br_t a (Y _ (fun _ => ⟨rfl, R⟩) (fun z => absurd a z))
  refine br_f a (ac_xensure ho a hT hC ?_)
  intro gA2 gD2 su2 pa2 pd2 oc2 wy2 hC2 hsu2
  refine ⟨7, ac_xwho41 ho hr (fun pp hpp => (hC2 o ho a hsu2 pp hpp).2) 6 0 0 7 (by omega) (by omega) ?_⟩
  exact Y _ (fun z => absurd z a) (fun _ => ⟨rfl, ac_in _ hT hC2⟩)
theorem i_vc_count {k : Nat} {u : SX} {v : SY} (I : i_Rel k u v) (hk : k + 5 ≤ 2560) (v1 : Int32) (v2 : Int32) : wpX_count (fun r u' => wpY_count (fun r' => r' = r ∧ i_Rel (k + 5) u' v) v v1 v2) u v1 v2 := by
  refine ac_el (P := fun u v => wpX_count (fun r u' => wpY_count (fun r' => r' = r ∧ i_Rel (k + 5) u' v) v v1 v2) u v1 v2) ?_ I
  intro gA gD st p cl c al wh t fl gr su pa pd oc wy bf yb hT hC
  have R : i_Rel (k + 5) (gA, gD, st, (ac_xp p), cl, (ac_nn c), al, wh, (ac_mm t), fl, gr, su, pa, pd, oc, wy, bf) (st, (ac_nn p), cl, gr, (ac_nn c), al, wh, (ac_mm t), fl, yb) := ac_in _ hT hC
  unfold wpX_count
  dsimp only
  rcases ac_v6 v1 with hv | ⟨q, hq, rfl⟩
  · refine ac_xbpn hv (br_f (by decide) ?_)
    unfold wpY_count
    dsimp only
    exact ac_yipn hv (br_t rfl ⟨rfl, R⟩)
  refine ac_xbp hq (br_t rfl ?_)
  rcases ac_v4 v2 with hv | ⟨r, hr, rfl⟩
  · refine ac_pr4A hv ?_
    unfold wpY_count
    dsimp only
    exact ac_yip hq (br_f (by decide) (ac_yirn hv (br_t rfl ⟨rfl, R⟩)))
  refine ac_pr4O hr ⟨17, ac_xcount24 hq hr hT ?_ 16 0 17 _ _ _ _ _ _ _ (by omega) (by omega) hC⟩
  intro gA2 gD2 su2 pa2 pd2 oc2 wy2 hC2
  unfold wpY_count
  dsimp only
  exact ac_yip hq (br_f (by decide) (ac_yir hr (br_f (by decide) ⟨17, ac_ycount23 hr hT ⟨rfl, ac_in _ hT hC2⟩ 16 0 17 (by omega) (by omega)⟩)))
theorem i_vc_reach {k : Nat} {u : SX} {v : SY} (I : i_Rel k u v) (hk : k + 5 ≤ 2560) (v1 : Int32) : wpX_reach (fun r u' => wpY_reach (fun r' => r' = r ∧ i_Rel (k + 5) u' v) v v1) u v1 := by
  refine ac_el (P := fun u v => wpX_reach (fun r u' => wpY_reach (fun r' => r' = r ∧ i_Rel (k + 5) u' v) v v1) u v1) ?_ I
  intro gA gD st p cl c al wh t fl gr su pa pd oc wy bf yb hT hC
  have R : i_Rel (k + 5) (gA, gD, st, (ac_xp p), cl, (ac_nn c), al, wh, (ac_mm t), fl, gr, su, pa, pd, oc, wy, bf) (st, (ac_nn p), cl, gr, (ac_nn c), al, wh, (ac_mm t), fl, yb) := ac_in _ hT hC
  rcases ac_v6 v1 with hv | ⟨q, hq, rfl⟩
  · unfold wpX_reach
    dsimp only
    refine ac_xbpn hv (br_f (by decide) ?_)
    unfold wpY_reach
    dsimp only
    exact ac_yipn hv (br_t rfl ⟨rfl, R⟩)
  refine ac_xreach hq hT hC ?_
  intro gA2 gD2 su2 pa2 pd2 oc2 wy2 hC2
  unfold wpY_reach
  dsimp only
  exact ac_yip hq (br_f (by decide) ⟨17, ac_yreach14 hT ⟨rfl, ac_in _ hT hC2⟩ 16 0 17 (by omega) (by omega)⟩)
theorem i_vc_stir {k : Nat} {u : SX} {v : SY} (I : i_Rel k u v) (hk : k + 5 ≤ 2560) (v1 : Int32) : wpX_stir (fun r u' => wpY_stir (fun r' v' => r' = r ∧ i_Rel (k + 5) u' v') v v1) u v1 := by
  refine ac_el (P := fun u v => wpX_stir (fun r u' => wpY_stir (fun r' v' => r' = r ∧ i_Rel (k + 5) u' v') v v1) u v1) ?_ I
  intro gA gD st p cl c al wh t fl gr su pa pd oc wy bf yb hT hC
  rcases ac_v0 v1 with hv | ⟨o, ho, rfl⟩
  · unfold wpX_stir
    dsimp only
    refine ac_xbon hv (br_f (by decide) ?_)
    unfold wpY_stir
    dsimp only
    exact ac_yion hv (br_t rfl ⟨rfl, ac_in _ hT hC⟩)
  by_cases a : st o = 0
  · have hin : vp_in (nI o) 16 := vp_in_nI ho (by decide)
    unfold wpX_stir
    dsimp only
    refine ac_xbo ho (br_t rfl ⟨hin, ?_⟩)
    rw [nI_clamp (show o < 2 ^ 31 by omega)]
    refine br_t a ?_
    unfold wpY_stir
    dsimp only
    refine ac_yio ho (br_f (by decide) ⟨hin, ?_⟩)
    rw [nI_clamp (show o < 2 ^ 31 by omega)]
    exact br_t a ⟨rfl, ac_in _ hT hC⟩
  refine ac_xstir (F := fun m => decide (¬ ac_R st cl p c al wh t fl gr (m / 6) (m % 6) = ac_R st (upd cl o (ac_fl cl o)) p c al wh t fl gr (m / 6) (m % 6))) ho a hT hC (fun _ _ => rfl) ?_
  intro gA2 gD2 su2 pa2 pd2 oc2 wy2 bf2 hC2
  refine ac_ystir (F := fun m => decide (¬ ac_R st cl p c al wh t fl gr (m / 6) (m % 6) = ac_R st (upd cl o (ac_fl cl o)) p c al wh t fl gr (m / 6) (m % 6))) ho a hT (fun _ _ => rfl) ?_
  intro yb2
  exact ⟨rfl, ac_in _ hT hC2⟩
end
