section
/-! sums over the places -/
def cf_S (f : Nat → Nat) : Nat → Nat
  | 0 => 0
  | n + 1 => cf_S f n + f n
theorem cf_S_congr {f g : Nat → Nat} {n : Nat} (h : ∀ i, i < n → f i = g i) : cf_S f n = cf_S g n := by
  induction n with
  | zero => rfl
  | succ n ih =>
    show cf_S f n + f n = cf_S g n + g n
    rw [ih (fun i hi => h i (by omega)), h n (by omega)]
theorem cf_S_le {f g : Nat → Nat} {n : Nat} (h : ∀ i, i < n → f i ≤ g i) : cf_S f n ≤ cf_S g n := by
  induction n with
  | zero => exact Nat.le_refl _
  | succ n ih =>
    show cf_S f n + f n ≤ cf_S g n + g n
    exact Nat.add_le_add (ih (fun i hi => h i (by omega))) (h n (by omega))
theorem cf_S_add (f g : Nat → Nat) (n : Nat) : cf_S (fun i => f i + g i) n = cf_S f n + cf_S g n := by
  induction n with
  | zero => rfl
  | succ n ih =>
    show cf_S (fun i => f i + g i) n + (f n + g n) = (cf_S f n + f n) + (cf_S g n + g n)
    rw [ih]
    omega
theorem cf_S_0 {f : Nat → Nat} {n : Nat} (h : ∀ i, i < n → f i = 0) : cf_S f n = 0 := by
  induction n with
  | zero => rfl
  | succ n ih =>
    show cf_S f n + f n = 0
    rw [ih (fun i hi => h i (by omega)), h n (by omega)]
theorem cf_S_z {f : Nat → Nat} {n : Nat} (h : cf_S f n = 0) : ∀ i, i < n → f i = 0 := by
  induction n with
  | zero => exact fun i hi => absurd hi (by omega)
  | succ n ih =>
    have h' : cf_S f n + f n = 0 := h
    intro i hi
    by_cases e : i = n
    · rw [e]
      omega
    · exact ih (by omega) i (by omega)
theorem cf_S_b {f : Nat → Nat} {n k : Nat} (h : ∀ i, i < n → f i ≤ k) : cf_S f n ≤ n * k := by
  induction n with
  | zero => exact Nat.zero_le _
  | succ n ih =>
    show cf_S f n + f n ≤ (n + 1) * k
    have h1 := ih (fun i hi => h i (by omega))
    have h2 := h n (by omega)
    rw [Nat.add_mul, Nat.one_mul]
    omega
theorem cf_S_upd {f g : Nat → Nat} {n k : Nat} (hk : k < n) (h : ∀ i, i < n → i ≠ k → g i = f i) : cf_S g n + f k = cf_S f n + g k := by
  induction n with
  | zero => exact absurd hk (by omega)
  | succ n ih =>
    show (cf_S g n + g n) + f k = (cf_S f n + f n) + g k
    by_cases e : k = n
    · have h1 : cf_S g n = cf_S f n := cf_S_congr (fun i hi => h i (by omega) (by omega))
      rw [h1, e]
      omega
    · have h1 := ih (by omega) (fun i hi hne => h i (by omega) hne)
      have h2 := h n (by omega) (fun z => e z.symm)
      omega
theorem cf_S_one {n k : Nat} (hk : k < n) (h : Nat → Nat) : cf_S (fun i => if i = k then h i else 0) n = h k := by
  have e : cf_S (fun i => if i = k then h i else 0) n + 0 = cf_S (fun _ => 0) n + (if k = k then h k else 0) :=
    cf_S_upd (f := fun _ => 0) (g := fun i => if i = k then h i else 0) hk (fun i _ hne => if_neg hne)
  have z : cf_S (fun _ => 0) n = 0 := cf_S_0 (fun _ _ => rfl)
  rw [z, if_pos rfl] at e
  omega
theorem cf_SS_swap (g : Nat → Nat → Nat) (n m : Nat) : cf_S (fun a => cf_S (fun b => g a b) m) n = cf_S (fun b => cf_S (fun a => g a b) n) m := by
  induction n with
  | zero => exact (cf_S_0 (f := fun b => cf_S (fun a => g a b) 0) (n := m) (fun _ _ => rfl)).symm
  | succ n ih =>
    show cf_S (fun a => cf_S (fun b => g a b) m) n + cf_S (fun b => g n b) m = cf_S (fun b => cf_S (fun a => g a b) n + g n b) m
    rw [ih, cf_S_add]
/-! double sums over six times six -/
def cf_D (g : Nat → Nat → Nat) : Nat := cf_S (fun a => cf_S (fun b => g a b) 6) 6
theorem cf_D_congr {g h : Nat → Nat → Nat} (e : ∀ a b, a < 6 → b < 6 → g a b = h a b) : cf_D g = cf_D h :=
  cf_S_congr (fun a ha => cf_S_congr (fun b hb => e a b ha hb))
theorem cf_D_le {g h : Nat → Nat → Nat} (e : ∀ a b, a < 6 → b < 6 → g a b ≤ h a b) : cf_D g ≤ cf_D h :=
  cf_S_le (fun a ha => cf_S_le (fun b hb => e a b ha hb))
theorem cf_D_add (g h : Nat → Nat → Nat) : cf_D (fun a b => g a b + h a b) = cf_D g + cf_D h := by
  unfold cf_D
  rw [← cf_S_add]
  exact cf_S_congr (fun a _ => cf_S_add _ _ _)
theorem cf_D_0 {g : Nat → Nat → Nat} (e : ∀ a b, a < 6 → b < 6 → g a b = 0) : cf_D g = 0 :=
  cf_S_0 (fun a ha => cf_S_0 (fun b hb => e a b ha hb))
theorem cf_D_z {g : Nat → Nat → Nat} (h : cf_D g = 0) : ∀ a b, a < 6 → b < 6 → g a b = 0 :=
  fun a b ha hb => cf_S_z (f := fun b => g a b) (cf_S_z (f := fun a => cf_S (fun b => g a b) 6) h a ha) b hb
theorem cf_D_b {g : Nat → Nat → Nat} {k : Nat} (e : ∀ a b, a < 6 → b < 6 → g a b ≤ k) : cf_D g ≤ 36 * k := by
  have h1 : cf_D g ≤ 6 * (6 * k) := cf_S_b (fun a ha => cf_S_b (fun b hb => e a b ha hb))
  omega
theorem cf_D_upd {g h : Nat → Nat → Nat} {x y : Nat} (hx : x < 6) (hy : y < 6) (e : ∀ a b, a < 6 → b < 6 → ¬ (a = x ∧ b = y) → h a b = g a b) : cf_D h + g x y = cf_D g + h x y := by
  have h1 : cf_D h + cf_S (fun b => g x b) 6 = cf_D g + cf_S (fun b => h x b) 6 :=
    cf_S_upd (f := fun a => cf_S (fun b => g a b) 6) (g := fun a => cf_S (fun b => h a b) 6) hx (fun a ha hne => cf_S_congr (fun b hb => e a b ha hb (fun z => hne z.1)))
  have h2 : cf_S (fun b => h x b) 6 + g x y = cf_S (fun b => g x b) 6 + h x y :=
    cf_S_upd (f := fun b => g x b) (g := fun b => h x b) hy (fun b hb hne => e x b hx hb (fun z => hne z.2))
  omega
theorem cf_D_lt {g h : Nat → Nat → Nat} {x y : Nat} (hx : x < 6) (hy : y < 6) (e : ∀ a b, a < 6 → b < 6 → g a b ≤ h a b) (hs : g x y < h x y) : cf_D g < cf_D h := by
  have h1 : cf_D (fun a b => if a = x ∧ b = y then g x y else h a b) + h x y = cf_D h + (if x = x ∧ y = y then g x y else h x y) :=
    cf_D_upd (g := h) (h := fun a b => if a = x ∧ b = y then g x y else h a b) hx hy (fun a b _ _ hn => if_neg hn)
  have h2 : cf_D g ≤ cf_D (fun a b => if a = x ∧ b = y then g x y else h a b) := by
    refine cf_D_le (fun a b ha hb => ?_)
    show g a b ≤ if a = x ∧ b = y then g x y else h a b
    by_cases c : a = x ∧ b = y
    · exact Nat.le_of_eq (by rw [if_pos c, c.1, c.2])
    · rw [if_neg c]
      exact e a b ha hb
  rw [if_pos ⟨rfl, rfl⟩] at h1
  omega
theorem cf_D_col {k : Nat} (hk : k < 6) (h : Nat → Nat) : cf_D (fun a b => if b = k then h a else 0) = cf_S h 6 :=
  cf_S_congr (fun a _ => cf_S_one hk (fun _ => h a))
theorem cf_D_row {k : Nat} (hk : k < 6) (h : Nat → Nat) : cf_D (fun a b => if a = k then h b else 0) = cf_S h 6 := by
  have e : ∀ a, a < 6 → cf_S (fun b => if a = k then h b else 0) 6 = (fun i => if i = k then cf_S h 6 else 0) a := by
    intro a _
    show _ = if a = k then cf_S h 6 else 0
    by_cases c : a = k
    · rw [if_pos c]
      exact cf_S_congr (fun b _ => if_pos c)
    · rw [if_neg c]
      exact cf_S_0 (fun b _ => if_neg c)
  exact (cf_S_congr e).trans (cf_S_one hk (fun _ => cf_S h 6))
theorem cf_D_swap (g : Nat → Nat → Nat) : cf_D (fun a b => g b a) = cf_D g := cf_SS_swap (fun a b => g b a) 6 6
/-! one place of a table written -/
def cf_u (f : Nat → Nat) (k x : Nat) : Nat → Nat := fun j => if j = k then x else f j
theorem cf_us {f : Nat → Nat} {k x : Nat} : cf_u f k x k = x := if_pos rfl
theorem cf_un {f : Nat → Nat} {k x j : Nat} (h : j ≠ k) : cf_u f k x j = f j := if_neg h
theorem cf_ix {a b x y : Nat} (hb : b < 6) (hy : y < 6) : a * 6 + b = x * 6 + y ↔ a = x ∧ b = y := by
  constructor
  · intro h
    omega
  · intro h
    omega
def cf_ar (a : Nat → Int32) (r : Nat → Nat) : Prop := ∀ j, j < 36 → a j = nI (r j)
theorem cf_ar_u {a : Nat → Int32} {r : Nat → Nat} {k x : Nat} {v : Int32} (h : cf_ar a r) (hv : v = nI x) : cf_ar (upd a k v) (cf_u r k x) := by
  intro j hj
  by_cases e : j = k
  · rw [e, pk_us, cf_us, hv]
  · rw [pk_un e, cf_un e, h j hj]
/-! the cost of a side -/
def cf_cost (C : Nat → Nat) (p : Nat → Bool) : Nat := cf_D (fun a b => if p a = true ∧ p b = false then C (a * 6 + b) else 0)
theorem cf_cost_congr {C C' : Nat → Nat} {p p' : Nat → Bool} (hC : ∀ i, i < 36 → C i = C' i) (hp : ∀ v, v < 6 → p v = p' v) : cf_cost C p = cf_cost C' p' := by
  refine cf_D_congr (fun a b ha hb => ?_)
  show (if p a = true ∧ p b = false then C (a * 6 + b) else 0) = if p' a = true ∧ p' b = false then C' (a * 6 + b) else 0
  rw [hp a ha, hp b hb, hC (a * 6 + b) (by omega)]
theorem cf_cost_upd (r : Nat → Nat) (p : Nat → Bool) {a b : Nat} (ha : a < 6) (hb : b < 6) (x : Nat) :
    cf_cost (cf_u r (a * 6 + b) x) p + (if p a = true ∧ p b = false then r (a * 6 + b) else 0) = cf_cost r p + (if p a = true ∧ p b = false then x else 0) := by
  have h : cf_cost (cf_u r (a * 6 + b) x) p + (if p a = true ∧ p b = false then r (a * 6 + b) else 0) = cf_cost r p + (if p a = true ∧ p b = false then cf_u r (a * 6 + b) x (a * 6 + b) else 0) :=
    cf_D_upd (g := fun u v => if p u = true ∧ p v = false then r (u * 6 + v) else 0) (h := fun u v => if p u = true ∧ p v = false then cf_u r (a * 6 + b) x (u * 6 + v) else 0) ha hb (fun u v hu hv hn => by
      show (if p u = true ∧ p v = false then cf_u r (a * 6 + b) x (u * 6 + v) else 0) = if p u = true ∧ p v = false then r (u * 6 + v) else 0
      rw [cf_un (fun z => hn ((cf_ix hv hb).mp z))])
  rw [cf_us] at h
  exact h
theorem cf_cost_b {C : Nat → Nat} (hC : ∀ i, i < 36 → C i ≤ 30) (p : Nat → Bool) : cf_cost C p ≤ 1080 := by
  have h : cf_cost C p ≤ 36 * 30 := by
    refine cf_D_b (fun a b ha hb => ?_)
    show (if p a = true ∧ p b = false then C (a * 6 + b) else 0) ≤ 30
    have h1 := hC (a * 6 + b) (by omega)
    by_cases c : p a = true ∧ p b = false
    · rw [if_pos c]
      exact h1
    · rw [if_neg c]
      exact Nat.zero_le _
  omega
/-- a table that reads the same from both ends -/
def cf_sym (C : Nat → Nat) : Prop := ∀ a b, a < 6 → b < 6 → C (a * 6 + b) = C (b * 6 + a)
theorem cf_cost_not {C : Nat → Nat} (hs : cf_sym C) (p : Nat → Bool) : cf_cost C (fun v => !p v) = cf_cost C p := by
  have h := cf_D_swap (fun a b => if p a = true ∧ p b = false then C (a * 6 + b) else 0)
  refine Eq.trans ?_ h
  refine cf_D_congr (fun a b ha hb => ?_)
  show (if (!p a) = true ∧ (!p b) = false then C (a * 6 + b) else 0) = if p b = true ∧ p a = false then C (b * 6 + a) else 0
  rw [hs a b ha hb]
  cases p a <;> cases p b <;> rfl
/-! masks -/
theorem cf_bit0 : ∀ m, m < 64 → ∀ v, v < 6 → (((nI m >>> (nI v &&& 31)) &&& 1) = 0 ↔ m.testBit v = false) := by decide +kernel
theorem cf_bit1 : ∀ m, m < 64 → ∀ v, v < 6 → (((nI m >>> (nI v &&& 31)) &&& 1) = 1 ↔ m.testBit v = true) := by decide +kernel
theorem cf_one : ∀ v, v < 6 → (1 : Int32) <<< (nI v &&& 31) = nI (2 ^ v) := by decide +kernel
theorem cf_or : ∀ m, m < 64 → ∀ v, v < 6 → nI m ||| ((1 : Int32) <<< (nI v &&& 31)) = nI (m ||| 2 ^ v) := by decide +kernel
theorem cf_or_lt : ∀ m, m < 64 → ∀ v, v < 6 → m ||| 2 ^ v < 64 := by decide +kernel
theorem cf_or_bit : ∀ m, m < 64 → ∀ b, b < 6 → ∀ v, v < 6 → (m ||| 2 ^ b).testBit v = (m.testBit v || decide (v = b)) := by decide +kernel
theorem cf_or_t {m b : Nat} (hm : m < 64) (hb : b < 6) : (m ||| 2 ^ b).testBit b = true := by
  rw [cf_or_bit m hm b hb b hb, decide_eq_true rfl, Bool.or_true]
theorem cf_or_n {m b v : Nat} (hm : m < 64) (hb : b < 6) (hv : v < 6) (h : v ≠ b) : (m ||| 2 ^ b).testBit v = m.testBit v := by
  rw [cf_or_bit m hm b hb v hv, decide_eq_false h, Bool.or_false]
theorem cf_pw_lt : ∀ v, v < 6 → 2 ^ v < 64 := by decide +kernel
theorem cf_pw_bit : ∀ b, b < 6 → ∀ v, v < 6 → (2 ^ b).testBit v = decide (v = b) := by decide +kernel
theorem cf_del : ∀ m, m < 64 → ∀ v, v < 6 → nI m &&& (((1 : Int32) <<< (nI v &&& 31)) ^^^ (-1)) = nI (m &&& (63 - 2 ^ v)) := by decide +kernel
theorem cf_del_lt : ∀ m, m < 64 → ∀ v, v < 6 → m &&& (63 - 2 ^ v) < 64 := by decide +kernel
theorem cf_del_bit : ∀ m, m < 64 → ∀ b, b < 6 → ∀ v, v < 6 → (m &&& (63 - 2 ^ b)).testBit v = (m.testBit v && decide (v ≠ b)) := by decide +kernel
theorem cf_not : ∀ m, m < 64 → (63 : Int32) &&& (nI m ^^^ (-1)) = nI (63 - m) := by decide +kernel
theorem cf_not_bit : ∀ m, m < 64 → ∀ v, v < 6 → (63 - m).testBit v = !m.testBit v := by decide +kernel
theorem cf_byte : ∀ v, v < 6 → (nI v).toInt8.toInt32 = nI v := by decide +kernel
theorem cf_mask_ext {x y : Nat} (hx : x < 64) (hy : y < 64) (h : ∀ v, v < 6 → x.testBit v = y.testBit v) : x = y := by
  apply Nat.eq_of_testBit_eq
  intro i
  by_cases hi : i < 6
  · exact h i hi
  · have hp : (64 : Nat) ≤ 2 ^ i := by
      have e : (2 : Nat) ^ 6 ≤ 2 ^ i := Nat.pow_le_pow_right (by decide) (by omega)
      exact e
    rw [Nat.testBit_lt_two_pow (by omega), Nat.testBit_lt_two_pow (by omega)]
theorem cf_cell {a b : Nat} : nI a * 6 + nI b = nI (a * 6 + b) := by
  show nI a * nI 6 + nI b = nI (a * 6 + b)
  rw [pk_mul, nI_add]
theorem cf_cl {a b : Nat} (ha : a < 6) (hb : b < 6) : (nI a * 6 + nI b).toNatClampNeg = a * 6 + b := by
  rw [cf_cell]
  exact nI_clamp (by omega)
theorem cf_c1 {a : Nat} (ha : a < 1000) : (nI a).toNatClampNeg = a := nI_clamp (by omega)
theorem cf_in36 {a b : Nat} (ha : a < 6) (hb : b < 6) : vp_in (nI a * 6 + nI b) 36 := by
  rw [cf_cell]
  exact vp_in_nI (by omega) (by omega)
/-! the walk of in() -/
theorem cf_in {post : Int32 → Prop} {m v : Nat} (hm : m < 64) (hv : v < 6) (h0 : m.testBit v = false → post 0) (h1 : m.testBit v = true → post 1) : wpX_in post () (nI m) (nI v) := by
  unfold wpX_in
  cases hb : m.testBit v with
  | false => exact br_t ((cf_bit0 m hm v hv).mpr hb) (h0 hb)
  | true => exact br_f (fun z => absurd ((cf_bit0 m hm v hv).mp z) (by rw [hb]; decide)) (h1 hb)
theorem cf_inb {A B : Prop} {m v : Nat} (hm : m < 64) (hv : v < 6) (h0 : m.testBit v = false → A) (h1 : m.testBit v = true → B) : wpX_in (fun r => (r = 0 → A) ∧ (¬ r = 0 → B)) () (nI m) (nI v) :=
  cf_in hm hv (fun z => br_t rfl (h0 z)) (fun z => br_f (by decide) (h1 z))
/-- how many places a set holds -/
def cf_cnt (p : Nat → Bool) : Nat := cf_S (fun v => if p v = true then 1 else 0) 6
theorem cf_cnt_le (p : Nat → Bool) : cf_cnt p ≤ 6 := by
  have h : cf_cnt p ≤ 6 * 1 := by
    refine cf_S_b (fun v _ => ?_)
    show (if p v = true then 1 else 0) ≤ 1
    cases p v <;> decide
  omega
theorem cf_cnt_add {p q : Nat → Bool} {b : Nat} (hb : b < 6) (h0 : p b = false) (h1 : q b = true) (hn : ∀ v, v < 6 → v ≠ b → q v = p v) : cf_cnt q = cf_cnt p + 1 := by
  have h : cf_cnt q + (if p b = true then 1 else 0) = cf_cnt p + (if q b = true then 1 else 0) :=
    cf_S_upd (f := fun v => if p v = true then 1 else 0) (g := fun v => if q v = true then 1 else 0) hb (fun v hv hne => by
      show (if q v = true then 1 else 0) = if p v = true then 1 else 0
      rw [hn v hv hne])
  rw [h0, h1] at h
  exact h
theorem cf_cnt_mono {p q : Nat → Bool} (h : ∀ v, v < 6 → p v = true → q v = true) : cf_cnt p ≤ cf_cnt q := by
  refine cf_S_le (fun v hv => ?_)
  show (if p v = true then 1 else 0) ≤ if q v = true then 1 else 0
  cases hp : p v with
  | false => exact Nat.zero_le _
  | true =>
    rw [h v hv hp]
    exact Nat.le_refl _
theorem cf_cnt_lt {p q : Nat → Bool} (h : ∀ v, v < 6 → p v = true → q v = true) (hl : cf_cnt p < cf_cnt q) : ∃ v, v < 6 ∧ q v = true ∧ p v = false := by
  apply Classical.byContradiction
  intro hn
  have h2 : cf_cnt q ≤ cf_cnt p := cf_cnt_mono (fun v hv hq => by
    cases hp : p v with
    | true => rfl
    | false => exact absurd ⟨v, hv, hq, hp⟩ hn)
  omega
theorem cf_cnt_eq {p q : Nat → Bool} (h : ∀ v, v < 6 → p v = true → q v = true) (he : cf_cnt q ≤ cf_cnt p) : ∀ v, v < 6 → p v = q v := by
  intro v hv
  cases hp : p v with
  | true => exact (h v hv hp).symm
  | false =>
    cases hq : q v with
    | false => rfl
    | true =>
      have h2 : cf_cnt p < cf_cnt q := by
        have h3 : cf_cnt (fun w => if w = v then true else p w) = cf_cnt p + 1 :=
          cf_cnt_add (p := p) (q := fun w => if w = v then true else p w) hv hp (if_pos rfl) (fun w _ hne => if_neg hne)
        have h4 : cf_cnt (fun w => if w = v then true else p w) ≤ cf_cnt q := by
          refine cf_cnt_mono (fun w hw e => ?_)
          by_cases c : w = v
          · rw [c]
            exact hq
          · have e' : (if w = v then true else p w) = true := e
            rw [if_neg c] at e'
            exact h w hw e'
        omega
      omega
end
section
/-! pushing along one link from a to b -/
def cf_pe (r : Nat → Nat) (a b d : Nat) : Nat → Nat :=
  cf_u (cf_u r (a * 6 + b) (r (a * 6 + b) - d)) (b * 6 + a) (cf_u r (a * 6 + b) (r (a * 6 + b) - d) (b * 6 + a) + d)
theorem cf_pe_f {r : Nat → Nat} {a b d : Nat} (ha : a < 6) (hb : b < 6) (hn : a ≠ b) : cf_pe r a b d (a * 6 + b) = r (a * 6 + b) - d := by
  unfold cf_pe
  rw [cf_un (by omega), cf_us]
theorem cf_pe_b {r : Nat → Nat} {a b d : Nat} (ha : a < 6) (hb : b < 6) (hn : a ≠ b) : cf_pe r a b d (b * 6 + a) = r (b * 6 + a) + d := by
  unfold cf_pe
  rw [cf_us, cf_un (by omega)]
theorem cf_pe_n {r : Nat → Nat} {a b d u v : Nat} (ha : a < 6) (hb : b < 6) (hv : v < 6) (h1 : ¬ (u = a ∧ v = b)) (h2 : ¬ (u = b ∧ v = a)) : cf_pe r a b d (u * 6 + v) = r (u * 6 + v) := by
  unfold cf_pe
  rw [cf_un (fun z => h2 ((cf_ix hv ha).mp z)), cf_un (fun z => h1 ((cf_ix hv hb).mp z))]
theorem cf_pe_cost {r : Nat → Nat} {a b d : Nat} (ha : a < 6) (hb : b < 6) (hd : d ≤ r (a * 6 + b)) (p : Nat → Bool) :
    cf_cost (cf_pe r a b d) p + (if p a = true then d else 0) = cf_cost r p + (if p b = true then d else 0) := by
  have h1 := cf_cost_upd r p ha hb (r (a * 6 + b) - d)
  have h2 : cf_cost (cf_pe r a b d) p + _ = _ := cf_cost_upd (cf_u r (a * 6 + b) (r (a * 6 + b) - d)) p hb ha (cf_u r (a * 6 + b) (r (a * 6 + b) - d) (b * 6 + a) + d)
  generalize cf_u r (a * 6 + b) (r (a * 6 + b) - d) (b * 6 + a) = y at h2
  generalize cf_cost (cf_u r (a * 6 + b) (r (a * 6 + b) - d)) p = z at h1 h2
  generalize cf_cost (cf_pe r a b d) p = w at h2 ⊢
  generalize cf_cost r p = t at h1 ⊢
  cases hpa : p a <;> cases hpb : p b <;> rw [hpa, hpb] at h1 h2 <;> simp at h1 h2 ⊢ <;> omega
/-- pushing along the first i links of a way x 0, x 1, .. (from its end backwards) -/
def cf_pu (r x : Nat → Nat) (d : Nat) : Nat → Nat → Nat
  | 0 => r
  | i + 1 => cf_pe (cf_pu r x d i) (x (i + 1)) (x i) d
/-- l falls by one along the way -/
def cf_dn (x l : Nat → Nat) (P : Nat) : Prop := ∀ i, i < P → l (x i) = l (x (i + 1)) + 1
theorem cf_dn_sum {x l : Nat → Nat} {P : Nat} (h : cf_dn x l P) : ∀ i, i ≤ P → l (x i) + i = l (x 0) := by
  intro i
  induction i with
  | zero => exact fun _ => rfl
  | succ i ih =>
    intro hi
    have h1 := ih (by omega)
    have h2 := h i (by omega)
    omega
theorem cf_dn_ne {x l : Nat → Nat} {P i j : Nat} (h : cf_dn x l P) (hi : i ≤ P) (hj : j ≤ P) (hn : i ≠ j) : x i ≠ x j := by
  intro e
  have h1 := cf_dn_sum h i hi
  have h2 := cf_dn_sum h j hj
  rw [e] at h1
  omega
theorem cf_pu_rest {r x l : Nat → Nat} {d P : Nat} (hx : ∀ i, i ≤ P → x i < 6) (hl : cf_dn x l P) :
    ∀ i, i ≤ P → ∀ j, i ≤ j → j < P → cf_pu r x d i (x (j + 1) * 6 + x j) = r (x (j + 1) * 6 + x j) := by
  intro i
  induction i with
  | zero => exact fun _ j _ _ => rfl
  | succ i ih =>
    intro hi j hj hjP
    show cf_pe (cf_pu r x d i) (x (i + 1)) (x i) d (x (j + 1) * 6 + x j) = _
    rw [cf_pe_n (hx _ (by omega)) (hx _ (by omega)) (hx _ (by omega)) (fun z => cf_dn_ne hl (by omega) (by omega) (by omega) z.2) (fun z => cf_dn_ne hl (by omega) (by omega) (by omega) z.1)]
    exact ih (by omega) j (by omega) hjP
theorem cf_pu_done {r x l : Nat → Nat} {d P : Nat} (hx : ∀ i, i ≤ P → x i < 6) (hl : cf_dn x l P) :
    ∀ i, i ≤ P → ∀ j, j < i → cf_pu r x d i (x (j + 1) * 6 + x j) = r (x (j + 1) * 6 + x j) - d := by
  intro i
  induction i with
  | zero => exact fun _ j hj => absurd hj (by omega)
  | succ i ih =>
    intro hi j hj
    show cf_pe (cf_pu r x d i) (x (i + 1)) (x i) d (x (j + 1) * 6 + x j) = _
    by_cases e : j = i
    · rw [e, cf_pe_f (hx _ (by omega)) (hx _ (by omega)) (cf_dn_ne hl (by omega) (by omega) (by omega)), cf_pu_rest hx hl i (by omega) i (by omega) (by omega)]
    · rw [cf_pe_n (hx _ (by omega)) (hx _ (by omega)) (hx _ (by omega)) (fun z => cf_dn_ne hl (by omega) (by omega) (by omega) z.2) (fun z => cf_dn_ne hl (i := j) (j := i + 1) (by omega) (by omega) (by omega) z.2)]
      exact ih (by omega) j (by omega)
theorem cf_pu_cost {r x l : Nat → Nat} {d P : Nat} (hx : ∀ i, i ≤ P → x i < 6) (hl : cf_dn x l P) (hd : ∀ i, i < P → d ≤ r (x (i + 1) * 6 + x i)) (p : Nat → Bool) :
    ∀ i, i ≤ P → cf_cost (cf_pu r x d i) p + (if p (x i) = true then d else 0) = cf_cost r p + (if p (x 0) = true then d else 0) := by
  intro i
  induction i with
  | zero => exact fun _ => rfl
  | succ i ih =>
    intro hi
    have h1 := ih (by omega)
    have h2 := cf_pe_cost (r := cf_pu r x d i) (d := d) (hx (i + 1) (by omega)) (hx i (by omega)) (by rw [cf_pu_rest hx hl i (by omega) i (by omega) (by omega)]; exact hd i (by omega)) p
    show cf_cost (cf_pe (cf_pu r x d i) (x (i + 1)) (x i) d) p + _ = _
    omega
/-- no link with room goes up by more than one -/
def cf_ok (r l : Nat → Nat) : Prop := ∀ u v, u < 6 → v < 6 → 0 < r (u * 6 + v) → l v ≤ l u + 1
theorem cf_pu_ok {r x l : Nat → Nat} {d P : Nat} (hx : ∀ i, i ≤ P → x i < 6) (hl : cf_dn x l P) (hok : cf_ok r l) : ∀ i, i ≤ P → cf_ok (cf_pu r x d i) l := by
  intro i
  induction i with
  | zero => exact fun _ => hok
  | succ i ih =>
    intro hi u v hu hv hr
    have e := hl i (by omega)
    by_cases c1 : u = x (i + 1) ∧ v = x i
    · rw [c1.1, c1.2]
      omega
    · by_cases c2 : u = x i ∧ v = x (i + 1)
      · rw [c2.1, c2.2]
        omega
      · have hr' : 0 < cf_pe (cf_pu r x d i) (x (i + 1)) (x i) d (u * 6 + v) := hr
        rw [cf_pe_n (hx _ (by omega)) (hx _ (by omega)) hv c1 c2] at hr'
        exact ih (by omega) u v hu hv hr'
theorem cf_pu_tight {r x l : Nat → Nat} {d P : Nat} (hx : ∀ i, i ≤ P → x i < 6) (hl : cf_dn x l P) : ∀ i, i ≤ P → ∀ u v, u < 6 → v < 6 → l v = l u + 1 → cf_pu r x d i (u * 6 + v) ≤ r (u * 6 + v) := by
  intro i
  induction i with
  | zero => exact fun _ u v _ _ _ => Nat.le_refl _
  | succ i ih =>
    intro hi u v hu hv ht
    have e := hl i (by omega)
    have h1 := ih (by omega) u v hu hv ht
    show cf_pe (cf_pu r x d i) (x (i + 1)) (x i) d (u * 6 + v) ≤ _
    by_cases c1 : u = x (i + 1) ∧ v = x i
    · rw [c1.1, c1.2] at h1 ⊢
      rw [cf_pe_f (hx _ (by omega)) (hx _ (by omega)) (cf_dn_ne hl (by omega) (by omega) (by omega))]
      omega
    · by_cases c2 : u = x i ∧ v = x (i + 1)
      · rw [c2.1, c2.2] at ht
        omega
      · rw [cf_pe_n (hx _ (by omega)) (hx _ (by omega)) hv c1 c2]
        exact h1
/-- the room of a link and of the one back -/
def cf_pr (r : Nat → Nat) : Prop := ∀ u v, u < 6 → v < 6 → r (u * 6 + v) + r (v * 6 + u) ≤ 60
theorem cf_pr_le {r : Nat → Nat} (h : cf_pr r) : ∀ j, j < 36 → r j ≤ 60 := by
  intro j hj
  have h1 := h (j / 6) (j % 6) (by omega) (by omega)
  rw [show j / 6 * 6 + j % 6 = j by omega] at h1
  omega
theorem cf_pu_pr {r x l : Nat → Nat} {d P : Nat} (hx : ∀ i, i ≤ P → x i < 6) (hl : cf_dn x l P) (hd : ∀ i, i < P → d ≤ r (x (i + 1) * 6 + x i)) (hp : cf_pr r) : ∀ i, i ≤ P → cf_pr (cf_pu r x d i) := by
  intro i
  induction i with
  | zero => exact fun _ => hp
  | succ i ih =>
    intro hi u v hu hv
    have h1 := ih (by omega) u v hu hv
    have hne : x (i + 1) ≠ x i := cf_dn_ne hl (by omega) (by omega) (by omega)
    have hd' : d ≤ cf_pu r x d i (x (i + 1) * 6 + x i) := by
      rw [cf_pu_rest hx hl i (by omega) i (by omega) (by omega)]
      exact hd i (by omega)
    have ha := hx (i + 1) (by omega)
    have hb := hx i (by omega)
    show cf_pe (cf_pu r x d i) (x (i + 1)) (x i) d (u * 6 + v) + cf_pe (cf_pu r x d i) (x (i + 1)) (x i) d (v * 6 + u) ≤ 60
    by_cases c1 : u = x (i + 1) ∧ v = x i
    · rw [c1.1, c1.2] at h1 ⊢
      rw [cf_pe_f ha hb hne, cf_pe_b ha hb hne]
      omega
    · by_cases c2 : u = x i ∧ v = x (i + 1)
      · rw [c2.1, c2.2] at h1 ⊢
        rw [cf_pe_f ha hb hne, cf_pe_b ha hb hne]
        omega
      · rw [cf_pe_n ha hb hv c1 c2, cf_pe_n ha hb hu (fun z => c2 ⟨z.2, z.1⟩) (fun z => c1 ⟨z.2, z.1⟩)]
        exact h1
/-- the number of links with room that go up by one -/
def cf_E (r l : Nat → Nat) : Nat := cf_D (fun u v => if 0 < r (u * 6 + v) ∧ l v = l u + 1 then 1 else 0)
theorem cf_E_le (r l : Nat → Nat) : cf_E r l ≤ 18 := by
  have h1 : cf_D (fun u v => (if 0 < r (u * 6 + v) ∧ l v = l u + 1 then 1 else 0) + (if 0 < r (v * 6 + u) ∧ l u = l v + 1 then 1 else 0)) = cf_E r l + cf_E r l := by
    rw [cf_D_add]
    exact congrArg (fun t => cf_E r l + t) (cf_D_swap (fun u v => if 0 < r (u * 6 + v) ∧ l v = l u + 1 then 1 else 0))
  have h2 : cf_D (fun u v => (if 0 < r (u * 6 + v) ∧ l v = l u + 1 then 1 else 0) + (if 0 < r (v * 6 + u) ∧ l u = l v + 1 then 1 else 0)) ≤ 36 * 1 := by
    refine cf_D_b (fun u v _ _ => ?_)
    show (if 0 < r (u * 6 + v) ∧ l v = l u + 1 then 1 else 0) + (if 0 < r (v * 6 + u) ∧ l u = l v + 1 then 1 else 0) ≤ 1
    by_cases c1 : 0 < r (u * 6 + v) ∧ l v = l u + 1
    · rw [if_pos c1, if_neg (fun c2 => by omega)]
      exact Nat.le_refl _
    · rw [if_neg c1]
      by_cases c2 : 0 < r (v * 6 + u) ∧ l u = l v + 1
      · rw [if_pos c2]
        exact Nat.le_refl _
      · rw [if_neg c2]
        exact Nat.zero_le _
  omega
theorem cf_E_lt {r x l : Nat → Nat} {d P i : Nat} (hx : ∀ i, i ≤ P → x i < 6) (hl : cf_dn x l P) (hi : i < P) (hd : d = r (x (i + 1) * 6 + x i)) (h0 : 0 < d) : cf_E (cf_pu r x d P) l < cf_E r l := by
  have ht := hl i hi
  refine cf_D_lt (x := x (i + 1)) (y := x i) (hx _ (by omega)) (hx _ (by omega)) (fun u v hu hv => ?_) ?_
  · show (if 0 < cf_pu r x d P (u * 6 + v) ∧ l v = l u + 1 then 1 else 0) ≤ if 0 < r (u * 6 + v) ∧ l v = l u + 1 then 1 else 0
    by_cases c : 0 < cf_pu r x d P (u * 6 + v) ∧ l v = l u + 1
    · have h1 := cf_pu_tight (r := r) (d := d) hx hl P (Nat.le_refl _) u v hu hv c.2
      rw [if_pos c, if_pos ⟨by omega, c.2⟩]
      exact Nat.le_refl _
    · rw [if_neg c]
      exact Nat.zero_le _
  · show (if 0 < cf_pu r x d P (x (i + 1) * 6 + x i) ∧ l (x i) = l (x (i + 1)) + 1 then 1 else 0) < if 0 < r (x (i + 1) * 6 + x i) ∧ l (x i) = l (x (i + 1)) + 1 then 1 else 0
    have h1 := cf_pu_done (r := r) (d := d) hx hl P (Nat.le_refl _) i hi
    rw [if_neg (fun c => by omega), if_pos ⟨by omega, ht⟩]
    exact Nat.zero_lt_one
/-- the answer of flow: value and least cheapest side -/
def cf_F (C : Nat → Nat) (S T r X : Nat) : Prop := X < 64 ∧ (∀ v, v < 6 → S.testBit v = true → X.testBit v = true) ∧ (∀ v, v < 6 → T.testBit v = true → X.testBit v = false) ∧ cf_cost C X.testBit = r ∧
  ∀ Y : Nat → Bool, (∀ v, v < 6 → S.testBit v = true → Y v = true) → (∀ v, v < 6 → T.testBit v = true → Y v = false) → r ≤ cf_cost C Y ∧ (cf_cost C Y = r → ∀ v, v < 6 → X.testBit v = true → Y v = true)
theorem cf_F_uni {C : Nat → Nat} {S T r X r' X' : Nat} (h : cf_F C S T r X) (h' : cf_F C S T r' X') : r = r' ∧ X = X' := by
  obtain ⟨h1, h2, h3, h4, h5⟩ := h
  obtain ⟨g1, g2, g3, g4, g5⟩ := h'
  have a := h5 X'.testBit g2 g3
  have b := g5 X.testBit h2 h3
  have e : r = r' := by omega
  refine ⟨e, cf_mask_ext h1 g1 (fun v hv => ?_)⟩
  cases c : X.testBit v with
  | true => exact (a.2 (by omega) v hv c).symm
  | false =>
    cases c' : X'.testBit v with
    | false => rfl
    | true =>
      have := b.2 (by omega) v hv c'
      rw [c] at this
      exact this
/-- what spread has found when no goal is in reach -/
def cf_Z (r : Nat → Nat) (S T F : Nat) : Prop := F < 64 ∧ (∀ v, v < 6 → S.testBit v = true → F.testBit v = true) ∧ (∀ v, v < 6 → T.testBit v = true → F.testBit v = false) ∧
  (∀ u v, u < 6 → v < 6 → F.testBit u = true → 0 < r (u * 6 + v) → F.testBit v = true) ∧
  (∀ Y : Nat → Bool, (∀ v, v < 6 → S.testBit v = true → Y v = true) → (∀ u v, u < 6 → v < 6 → Y u = true → 0 < r (u * 6 + v) → Y v = true) → ∀ v, v < 6 → F.testBit v = true → Y v = true)
theorem cf_cost_0 {r : Nat → Nat} {p : Nat → Bool} : cf_cost r p = 0 ↔ ∀ u v, u < 6 → v < 6 → p u = true → 0 < r (u * 6 + v) → p v = true := by
  constructor
  · intro h u v hu hv hpu hr
    have e : (if p u = true ∧ p v = false then r (u * 6 + v) else 0) = 0 := cf_D_z h u v hu hv
    cases hpv : p v with
    | true => rfl
    | false =>
      rw [if_pos ⟨hpu, hpv⟩] at e
      omega
  · intro h
    refine cf_D_0 (fun u v hu hv => ?_)
    show (if p u = true ∧ p v = false then r (u * 6 + v) else 0) = 0
    by_cases c : p u = true ∧ p v = false
    · rw [if_pos c]
      have h1 := h u v hu hv c.1
      rw [c.2] at h1
      have h2 : ¬ 0 < r (u * 6 + v) := fun z => absurd (h1 z) (by decide)
      omega
    · rw [if_neg c]
theorem cf_Z_F {C r : Nat → Nat} {S T F s : Nat} (hz : cf_Z r S T F)
    (hc : ∀ Y : Nat → Bool, (∀ v, v < 6 → S.testBit v = true → Y v = true) → (∀ v, v < 6 → T.testBit v = true → Y v = false) → cf_cost C Y = s + cf_cost r Y) : cf_F C S T s F := by
  obtain ⟨h1, h2, h3, h4, h5⟩ := hz
  refine ⟨h1, h2, h3, ?_, fun Y hY hT => ?_⟩
  · have a := hc F.testBit h2 h3
    have b := cf_cost_0.mpr h4
    omega
  · have a := hc Y hY hT
    refine ⟨by omega, fun e => h5 Y hY (cf_cost_0.mp (by omega))⟩
/-- a shortest way that spread has found, ending at b, and labels that show that it is one -/
def cf_P (r : Nat → Nat) (S T b : Nat) (par : Nat → Int32) : Prop := ∃ (P : Nat) (x l : Nat → Nat), 1 ≤ P ∧ P ≤ 5 ∧ x 0 = b ∧ T.testBit b = true ∧ (∀ i, i ≤ P → x i < 6) ∧
  (∀ i, i < P → par (x i) = nI (x (i + 1)) ∧ 0 < r (x (i + 1) * 6 + x i)) ∧ S.testBit (x P) = true ∧ par (x P) = -1 ∧
  cf_ok r l ∧ (∀ v, v < 6 → S.testBit v = true → l v = 0) ∧ (∀ v, v < 6 → T.testBit v = true → P ≤ l v) ∧ cf_dn x l P
/-- the labels that flow keeps: k rounds done -/
def cf_L (r : Nat → Nat) (S T k : Nat) : Prop := ∃ (l : Nat → Nat) (D : Nat), cf_ok r l ∧ (∀ v, v < 6 → S.testBit v = true → l v = 0) ∧ (∀ v, v < 6 → T.testBit v = true → D ≤ l v) ∧ D ≤ 5 ∧ k + cf_E r l ≤ 18 * D
theorem cf_L_k {r : Nat → Nat} {S T k : Nat} (h : cf_L r S T k) : k ≤ 90 := by
  obtain ⟨l, D, _, _, _, h1, h2⟩ := h
  omega
theorem cf_L_0 {r : Nat → Nat} {S T : Nat} (hd : ∀ v, v < 6 → S.testBit v = true → T.testBit v = false) : cf_L r S T 0 := by
  refine ⟨fun v => if S.testBit v = true then 0 else 1, 1, ?_, ?_, ?_, by omega, ?_⟩
  · intro u v _ _ _
    show (if S.testBit v = true then 0 else 1) ≤ (if S.testBit u = true then 0 else 1) + 1
    cases S.testBit v <;> cases S.testBit u <;> decide
  · intro v _ h
    exact if_pos h
  · intro v hv h
    show 1 ≤ if S.testBit v = true then 0 else 1
    rw [if_neg (fun z => by have := hd v hv z; rw [h] at this; exact absurd this (by decide))]
    exact Nat.le_refl _
  · have := cf_E_le r (fun v => if S.testBit v = true then 0 else 1)
    omega
/-- one round: labels along which the way falls, with the count of tight links -/
theorem cf_L_way {r x l : Nat → Nat} {S T k P : Nat} (h : cf_L r S T k) (hP : P ≤ 5) (hx : ∀ i, i ≤ P → x i < 6) (hr : ∀ i, i < P → 0 < r (x (i + 1) * 6 + x i))
    (hS : S.testBit (x P) = true) (hT : T.testBit (x 0) = true) (hok : cf_ok r l) (hl0 : ∀ v, v < 6 → S.testBit v = true → l v = 0) (hlT : ∀ v, v < 6 → T.testBit v = true → P ≤ l v) (hdn : cf_dn x l P) :
    ∃ (l' : Nat → Nat) (D : Nat), cf_ok r l' ∧ (∀ v, v < 6 → S.testBit v = true → l' v = 0) ∧ (∀ v, v < 6 → T.testBit v = true → D ≤ l' v) ∧ D ≤ 5 ∧ k + cf_E r l' ≤ 18 * D ∧ cf_dn x l' P := by
  obtain ⟨m, D, m1, m2, m3, m4, m5⟩ := h
  by_cases c : P ≤ D
  · refine ⟨m, D, m1, m2, m3, m4, m5, ?_⟩
    have up : ∀ i, i ≤ P → m (x 0) ≤ m (x i) + i := by
      intro i
      induction i with
      | zero => exact fun _ => Nat.le_refl _
      | succ i ih =>
        intro hi
        have h1 := ih (by omega)
        have h2 := m1 (x (i + 1)) (x i) (hx _ (by omega)) (hx _ (by omega)) (hr i (by omega))
        omega
    have dn : ∀ j, j ≤ P → m (x (P - j)) ≤ j := by
      intro j
      induction j with
      | zero =>
        intro _
        have h1 := m2 (x P) (hx P (Nat.le_refl _)) hS
        rw [Nat.sub_zero]
        omega
      | succ j ih =>
        intro hj
        have h1 := ih (by omega)
        have h2 := m1 (x (P - (j + 1) + 1)) (x (P - (j + 1))) (hx _ (by omega)) (hx _ (by omega)) (hr _ (by omega))
        rw [show P - (j + 1) + 1 = P - j by omega] at h2
        omega
    have h0 := m3 (x 0) (hx 0 (by omega)) hT
    have ex : ∀ i, i ≤ P → m (x i) = P - i := by
      intro i hi
      have h1 := up i hi
      have h2 := dn (P - i) (by omega)
      rw [show P - (P - i) = i by omega] at h2
      omega
    intro i hi
    rw [ex i (by omega), ex (i + 1) (by omega)]
    omega
  · refine ⟨l, P, hok, hl0, hlT, hP, ?_, hdn⟩
    have := cf_E_le r l
    omega
theorem cf_L_next {r x l : Nat → Nat} {S T k D P d i : Nat} (hx : ∀ i, i ≤ P → x i < 6) (hok : cf_ok r l) (h0 : ∀ v, v < 6 → S.testBit v = true → l v = 0) (hT : ∀ v, v < 6 → T.testBit v = true → D ≤ l v)
    (hD : D ≤ 5) (hk : k + cf_E r l ≤ 18 * D) (hl : cf_dn x l P) (hi : i < P) (hd : d = r (x (i + 1) * 6 + x i)) (hd0 : 0 < d) : cf_L (cf_pu r x d P) S T (k + 1) := by
  refine ⟨l, D, cf_pu_ok hx hl hok P (Nat.le_refl _), h0, hT, hD, ?_⟩
  have := cf_E_lt hx hl hi hd hd0
  omega
end
section
/-- spread's queue: F found, e of them in line (ln, q), each with a level l and the place that it was found from (par) -/
def cf_Q (r : Nat → Nat) (S F e : Nat) (par ln : Nat → Int32) (l q : Nat → Nat) : Prop :=
  F < 64 ∧ e = cf_cnt F.testBit ∧
  (∀ i, i < e → q i < 6 ∧ F.testBit (q i) = true ∧ ln i = nI (q i) ∧ l (q i) ≤ i) ∧
  (∀ v, v < 6 → F.testBit v = true → ∃ i, i < e ∧ q i = v) ∧
  (∀ i j, i ≤ j → j < e → l (q i) ≤ l (q j)) ∧
  (∀ v, v < 6 → F.testBit v = true → (S.testBit v = true ∧ par v = -1 ∧ l v = 0) ∨ (S.testBit v = false ∧ ∃ u, u < 6 ∧ F.testBit u = true ∧ par v = nI u ∧ 0 < r (u * 6 + v) ∧ l v = l u + 1)) ∧
  (∀ Y : Nat → Bool, (∀ v, v < 6 → S.testBit v = true → Y v = true) → (∀ u v, u < 6 → v < 6 → Y u = true → 0 < r (u * 6 + v) → Y v = true) → ∀ v, v < 6 → F.testBit v = true → Y v = true)
theorem cf_Q_0 {r : Nat → Nat} {S : Nat} {par ln : Nat → Int32} {l q : Nat → Nat} : cf_Q r S 0 0 par ln l q := by
  have z : ∀ v, (0 : Nat).testBit v = true → False := fun v h => by
    rw [Nat.zero_testBit] at h
    exact absurd h (by decide)
  refine ⟨by decide, ?_, fun i h => absurd h (by omega), fun v _ h => absurd h (fun t => z v t), fun i j _ h => absurd h (by omega), fun v _ h => absurd h (fun t => z v t), fun Y _ _ v _ h => absurd h (fun t => z v t)⟩
  refine (cf_S_0 (fun v _ => ?_)).symm
  show (if (0 : Nat).testBit v = true then 1 else 0) = 0
  exact if_neg (z v)
theorem cf_Q_le {r : Nat → Nat} {S F e : Nat} {par ln : Nat → Int32} {l q : Nat → Nat} (h : cf_Q r S F e par ln l q) : e ≤ 6 := by
  have h1 := cf_cnt_le F.testBit
  have h2 := h.2.1
  omega
theorem cf_Q_add {r : Nat → Nat} {S F e b L : Nat} {par ln : Nat → Int32} {l q : Nat → Nat} {pv : Int32} (h : cf_Q r S F e par ln l q) (hb : b < 6) (hF : F.testBit b = false)
    (hL : ∀ i, i < e → l (q i) ≤ L) (hLe : L ≤ e)
    (ho : (S.testBit b = true ∧ pv = -1 ∧ L = 0) ∨ (S.testBit b = false ∧ ∃ u, u < 6 ∧ F.testBit u = true ∧ pv = nI u ∧ 0 < r (u * 6 + b) ∧ L = l u + 1)) :
    e < 6 ∧ cf_Q r S (F ||| 2 ^ b) (e + 1) (upd par b pv) (upd ln e (nI b)) (cf_u l b L) (cf_u q e b) := by
  obtain ⟨h1, h2, h3, h4, h5, h6, h7⟩ := h
  have hbt : (F ||| 2 ^ b).testBit b = true := cf_or_t h1 hb
  have hbn : ∀ v, v < 6 → v ≠ b → (F ||| 2 ^ b).testBit v = F.testBit v := fun v hv hn => cf_or_n h1 hb hv hn
  have hup : ∀ v, v < 6 → F.testBit v = true → (F ||| 2 ^ b).testBit v = true := by
    intro v hv hf
    by_cases c : v = b
    · rw [c]
      exact hbt
    · rw [hbn v hv c]
      exact hf
  have hnb : ∀ v, F.testBit v = true → v ≠ b := fun v hf c => by
    rw [c, hF] at hf
    exact absurd hf (by decide)
  have hc : cf_cnt (F ||| 2 ^ b).testBit = cf_cnt F.testBit + 1 := cf_cnt_add hb hF hbt hbn
  have hcl := cf_cnt_le (F ||| 2 ^ b).testBit
  have hq' : ∀ i, i < e → cf_u q e b i = q i := fun i hi => cf_un (by omega)
  have hl' : ∀ i, i < e → cf_u l b L (q i) = l (q i) := fun i hi => cf_un (hnb _ (h3 i hi).2.1)
  refine ⟨by omega, cf_or_lt F h1 b hb, by omega, ?_, ?_, ?_, ?_, ?_⟩
  · intro i hi
    by_cases c : i = e
    · rw [c, cf_us, cf_us, pk_us]
      exact ⟨hb, hbt, rfl, hLe⟩
    · have hi' : i < e := by omega
      obtain ⟨a1, a2, a3, a4⟩ := h3 i hi'
      rw [hq' i hi', hl' i hi', pk_un c]
      exact ⟨a1, hup _ a1 a2, a3, a4⟩
  · intro v hv hf
    by_cases c : v = b
    · exact ⟨e, by omega, by rw [cf_us, c]⟩
    · rw [hbn v hv c] at hf
      obtain ⟨i, hi, hiv⟩ := h4 v hv hf
      exact ⟨i, by omega, by rw [hq' i hi, hiv]⟩
  · intro i j hij hj
    by_cases c : j = e
    · rw [c, cf_us, cf_us]
      by_cases c' : i = e
      · rw [c', cf_us, cf_us]
        exact Nat.le_refl _
      · rw [hq' i (by omega), hl' i (by omega)]
        exact hL i (by omega)
    · rw [hq' i (by omega), hl' i (by omega), hq' j (by omega), hl' j (by omega)]
      exact h5 i j hij (by omega)
  · intro v hv hf
    by_cases c : v = b
    · rw [c, pk_us, cf_us]
      rcases ho with ho | ⟨o1, u, o2, o3, o4, o5, o6⟩
      · exact Or.inl ho
      · exact Or.inr ⟨o1, u, o2, hup u o2 o3, o4, o5, by rw [cf_un (hnb u o3)]; exact o6⟩
    · rw [hbn v hv c] at hf
      rw [pk_un c, cf_un c]
      rcases h6 v hv hf with ho | ⟨o1, u, o2, o3, o4, o5, o6⟩
      · exact Or.inl ho
      · exact Or.inr ⟨o1, u, o2, hup u o2 o3, o4, o5, by rw [cf_un (hnb u o3)]; exact o6⟩
  · intro Y hY hcY v hv hf
    by_cases c : v = b
    · rw [c]
      rcases ho with ho | ⟨o1, u, o2, o3, o4, o5, o6⟩
      · exact hY b hb ho.1
      · exact hcY u b o2 hb (h7 Y hY hcY u o2 o3) o5
    · rw [hbn v hv c] at hf
      exact h7 Y hY hcY v hv hf
/-- while place c = q k is looked at, up to b -/
def cf_N (r : Nat → Nat) (S k c b F e : Nat) (par ln : Nat → Int32) (l q : Nat → Nat) : Prop :=
  cf_Q r S F e par ln l q ∧ (∀ v, v < 6 → S.testBit v = true → F.testBit v = true) ∧ k < e ∧ q k = c ∧
  (∀ i, i < k → ∀ v, v < 6 → 0 < r (q i * 6 + v) → F.testBit v = true ∧ l v ≤ l (q i) + 1) ∧
  (∀ i, i < e → l (q i) ≤ l c + 1) ∧
  (∀ v, v < b → v < 6 → 0 < r (c * 6 + v) → F.testBit v = true ∧ l v ≤ l c + 1)
theorem cf_N_skip {r : Nat → Nat} {S k c b F e : Nat} {par ln : Nat → Int32} {l q : Nat → Nat} (h : cf_N r S k c b F e par ln l q) (hb : b < 6) (hs : F.testBit b = true ∨ r (c * 6 + b) = 0) : cf_N r S k c (b + 1) F e par ln l q := by
  obtain ⟨h1, h2, h3, h4, h5, h6, h7⟩ := h
  refine ⟨h1, h2, h3, h4, h5, h6, fun v hv hv6 hr => ?_⟩
  by_cases e' : v = b
  · rcases hs with hs | hs
    · rw [e']
      refine ⟨hs, ?_⟩
      obtain ⟨i, hi, hq⟩ := h1.2.2.2.1 b hb hs
      have := h6 i hi
      rw [hq] at this
      exact this
    · rw [e', hs] at hr
      exact absurd hr (by omega)
  · exact h7 v (by omega) hv6 hr
theorem cf_N_add {r : Nat → Nat} {S k c b F e : Nat} {par ln : Nat → Int32} {l q : Nat → Nat} (h : cf_N r S k c b F e par ln l q) (hb : b < 6) (hc : c < 6) (hF : F.testBit b = false) (hr : 0 < r (c * 6 + b)) :
    e < 6 ∧ cf_N r S k c (b + 1) (F ||| 2 ^ b) (e + 1) (upd par b (nI c)) (upd ln e (nI b)) (cf_u l b (l c + 1)) (cf_u q e b) := by
  obtain ⟨h1, h2, h3, h4, h5, h6, h7⟩ := h
  have hF64 := h1.1
  have hcF : F.testBit c = true := by
    rw [← h4]
    exact (h1.2.2.1 k h3).2.1
  have hSb : S.testBit b = false := by
    cases t : S.testBit b with
    | false => rfl
    | true =>
      rw [h2 b hb t] at hF
      exact absurd hF (by decide)
  have hlk : l c ≤ k := by
    rw [← h4]
    exact (h1.2.2.1 k h3).2.2.2
  obtain ⟨g0, g⟩ := cf_Q_add (pv := nI c) (L := l c + 1) h1 hb hF h6 (by omega) (Or.inr ⟨hSb, c, hc, hcF, rfl, hr, rfl⟩)
  have hup : ∀ v, v < 6 → F.testBit v = true → (F ||| 2 ^ b).testBit v = true := by
    intro v hv hf
    by_cases c' : v = b
    · rw [c']
      exact cf_or_t hF64 hb
    · rw [cf_or_n hF64 hb hv c']
      exact hf
  have hnb : ∀ v, F.testBit v = true → v ≠ b := fun v hf c' => by
    rw [c', hF] at hf
    exact absurd hf (by decide)
  have hq' : ∀ i, i < e → cf_u q e b i = q i := fun i hi => cf_un (by omega)
  have hl' : ∀ v, F.testBit v = true → cf_u l b (l c + 1) v = l v := fun v hf => cf_un (hnb v hf)
  refine ⟨g0, g, fun v hv hs => hup v hv (h2 v hv hs), by omega, ?_, ?_, ?_, ?_⟩
  · rw [hq' k h3]
    exact h4
  · intro i hi v hv hrv
    rw [hq' i (by omega)] at hrv
    obtain ⟨a1, a2⟩ := h5 i hi v hv hrv
    rw [hq' i (by omega), hl' v a1, hl' (q i) (h1.2.2.1 i (by omega)).2.1]
    exact ⟨hup v hv a1, a2⟩
  · intro i hi
    rw [hl' c hcF]
    by_cases c' : i = e
    · rw [c', cf_us, cf_us]
      exact Nat.le_refl _
    · rw [hq' i (by omega), hl' (q i) (h1.2.2.1 i (by omega)).2.1]
      exact h6 i (by omega)
  · intro v hv hv6 hrv
    rw [hl' c hcF]
    by_cases c' : v = b
    · rw [c', cf_us]
      exact ⟨cf_or_t hF64 hb, Nat.le_refl _⟩
    · obtain ⟨a1, a2⟩ := h7 v (by omega) hv6 hrv
      rw [hl' v a1]
      exact ⟨hup v hv6 a1, a2⟩
/-- the way back from a found place -/
theorem cf_Q_way {r : Nat → Nat} {S F e : Nat} {par ln : Nat → Int32} {l q : Nat → Nat} (h : cf_Q r S F e par ln l q) : ∀ P v, v < 6 → F.testBit v = true → l v = P →
    ∃ x : Nat → Nat, x 0 = v ∧ (∀ i, i ≤ P → x i < 6 ∧ F.testBit (x i) = true ∧ l (x i) = P - i) ∧ (∀ i, i < P → par (x i) = nI (x (i + 1)) ∧ 0 < r (x (i + 1) * 6 + x i)) ∧ S.testBit (x P) = true ∧ par (x P) = -1 := by
  intro P
  induction P with
  | zero =>
    intro v hv hf hl
    rcases h.2.2.2.2.2.1 v hv hf with o | ⟨_, u, _, _, _, _, o⟩
    · exact ⟨fun _ => v, rfl, fun i hi => ⟨hv, hf, by show l v = 0 - i; omega⟩, fun i hi => absurd hi (by omega), o.1, o.2.1⟩
    · omega
  | succ P ih =>
    intro v hv hf hl
    rcases h.2.2.2.2.2.1 v hv hf with o | ⟨_, u, o1, o2, o3, o4, o5⟩
    · have := o.2.2
      omega
    · obtain ⟨x, x0, x1, x2, x3, x4⟩ := ih u o1 o2 (by omega)
      have e1 : ∀ i, (fun j => if j = 0 then v else x (j - 1)) (i + 1) = x i := fun i => by
        show (if i + 1 = 0 then v else x (i + 1 - 1)) = x i
        rw [if_neg (by omega), Nat.add_sub_cancel]
      refine ⟨fun j => if j = 0 then v else x (j - 1), if_pos rfl, ?_, ?_, ?_, ?_⟩
      · intro i hi
        cases i with
        | zero => exact ⟨hv, hf, hl⟩
        | succ i =>
          rw [e1 i]
          obtain ⟨y1, y2, y3⟩ := x1 i (by omega)
          exact ⟨y1, y2, by omega⟩
      · intro i hi
        cases i with
        | zero =>
          rw [e1 0]
          show par v = nI (x 0) ∧ 0 < r (x 0 * 6 + v)
          rw [x0]
          exact ⟨o3, o4⟩
        | succ i =>
          rw [e1 i, e1 (i + 1)]
          exact x2 i (by omega)
      · rw [e1 P]
        exact x3
      · rw [e1 P]
        exact x4
/-- a goal b has just been found from c -/
theorem cf_N_goal {r : Nat → Nat} {S T k c b F e : Nat} {par ln : Nat → Int32} {l q : Nat → Nat} (h : cf_N r S k c b F e par ln l q) (hb : b < 6) (hc : c < 6) (hF : F.testBit b = false) (hr : 0 < r (c * 6 + b))
    (hno : ∀ v, v < 6 → T.testBit v = true → F.testBit v = false) (hT : T.testBit b = true) : cf_P r S T b (upd par b (nI c)) := by
  have hF64 := h.1.1
  have hcF : F.testBit c = true := by
    rw [← h.2.2.2.1]
    exact (h.1.2.2.1 k h.2.2.1).2.1
  have hcb : c ≠ b := fun z => by
    rw [z, hF] at hcF
    exact absurd hcF (by decide)
  obtain ⟨g0, g⟩ := cf_N_add h hb hc hF hr
  have hlb : cf_u l b (l c + 1) b = l c + 1 := cf_us
  have hlc : cf_u l b (l c + 1) c = l c := cf_un hcb
  have hlk : l c ≤ k := by
    rw [← h.2.2.2.1]
    exact (h.1.2.2.1 k h.2.2.1).2.2.2
  have hke := h.2.2.1
  revert g hlb hlc
  generalize cf_u l b (l c + 1) = m
  generalize cf_u q e b = p
  generalize hG : F ||| 2 ^ b = G
  generalize upd ln e (nI b) = ln'
  generalize upd par b (nI c) = par'
  intro g hlb hlc
  obtain ⟨g1, g2, g3, g4, g5, g6, g7⟩ := g
  have hGb : G.testBit b = true := by
    rw [← hG]
    exact cf_or_t hF64 hb
  obtain ⟨x, x0, x1, x2, x3, x4⟩ := cf_Q_way g1 (l c + 1) b hb hGb hlb
  have hml : ∀ i, i ≤ l c + 1 → (fun v => if G.testBit v = true then min (m v) (l c + 1) else l c + 1) (x i) = l c + 1 - i := by
    intro i hi
    obtain ⟨y1, y2, y3⟩ := x1 i hi
    show (if G.testBit (x i) = true then min (m (x i)) (l c + 1) else l c + 1) = l c + 1 - i
    rw [if_pos y2, y3]
    omega
  refine ⟨l c + 1, x, fun v => if G.testBit v = true then min (m v) (l c + 1) else l c + 1, by omega, by omega, x0, hT, fun i hi => (x1 i hi).1, x2, x3, x4, ?_, ?_, ?_, ?_⟩
  · intro u v hu hv hrv
    show (if G.testBit v = true then min (m v) (l c + 1) else l c + 1) ≤ (if G.testBit u = true then min (m u) (l c + 1) else l c + 1) + 1
    have hv' : (if G.testBit v = true then min (m v) (l c + 1) else l c + 1) ≤ l c + 1 := by
      by_cases c' : G.testBit v = true
      · rw [if_pos c']
        omega
      · rw [if_neg c']
        exact Nat.le_refl _
    by_cases cu : G.testBit u = true
    · rw [if_pos cu]
      obtain ⟨i, hi, hiu⟩ := g1.2.2.2.1 u hu cu
      by_cases ck : i < k
      · obtain ⟨z1, z2⟩ := g5 i ck v hv (by rw [hiu]; exact hrv)
        rw [hiu] at z2
        rw [if_pos z1]
        omega
      · have z := g1.2.2.2.2.1 k i (by omega) hi
        rw [g4, hiu, hlc] at z
        omega
    · rw [if_neg cu]
      omega
  · intro v hv hs
    show (if G.testBit v = true then min (m v) (l c + 1) else l c + 1) = 0
    have hGv := g2 v hv hs
    rw [if_pos hGv]
    rcases g1.2.2.2.2.2.1 v hv hGv with o | o
    · rw [o.2.2]
      omega
    · rw [hs] at o
      exact absurd o.1 (by decide)
  · intro v hv ht
    show l c + 1 ≤ if G.testBit v = true then min (m v) (l c + 1) else l c + 1
    by_cases cv : v = b
    · rw [cv, if_pos hGb, hlb]
      omega
    · have hGv : G.testBit v = false := by
        rw [← hG, cf_or_n hF64 hb hv cv]
        exact hno v hv ht
      rw [hGv]
      exact Nat.le_refl _
  · intro i hi
    rw [hml i (by omega), hml (i + 1) (by omega)]
    omega
/-- all of the line has been looked at -/
theorem cf_Q_end {r : Nat → Nat} {S T F e k : Nat} {par ln : Nat → Int32} {l q : Nat → Nat} (h : cf_Q r S F e par ln l q) (hS : ∀ v, v < 6 → S.testBit v = true → F.testBit v = true) (hno : ∀ v, v < 6 → T.testBit v = true → F.testBit v = false)
    (hk : e ≤ k) (hd : ∀ i, i < k → i < e → ∀ v, v < 6 → 0 < r (q i * 6 + v) → F.testBit v = true ∧ l v ≤ l (q i) + 1) : cf_Z r S T F := by
  refine ⟨h.1, hS, hno, fun u v hu hv hf hr => ?_, h.2.2.2.2.2.2⟩
  obtain ⟨i, hi, hiu⟩ := h.2.2.2.1 u hu hf
  exact (hd i (by omega) hi v hv (by rw [hiu]; exact hr)).1
end
section
/-! the walk of spread -/
theorem cf_w93 {post : Int32 → St1 → Prop} {J : Int32 → Int32 → Int32 → (Nat → Int32) → (Nat → Int32) → (Nat → Int32) → (Nat → Int32) → (Nat → Int32) → (Nat → Int32) → (Nat → Int32) → (Nat → Int32) → Prop}
    {r : Nat → Nat} {S T k c : Nat} {a1 a2 a5 a6 a7 a8 : Nat → Int32} (har : cf_ar a2 r) (hr : ∀ j, j < 36 → r j ≤ 60) (hT : T < 64) (hc : c < 6)
    (HJ : ∀ (F e : Nat) (a3 a4 : Nat → Int32) (l q : Nat → Nat), cf_N r S k c 6 F e a3 a4 l q → (∀ v, v < 6 → T.testBit v = true → F.testBit v = false) → J (nI e) (nI (k + 1)) (nI F) a1 a2 a3 a4 a5 a6 a7 a8)
    (HP : ∀ (b F : Nat) (a3 a4 : Nat → Int32), b < 6 → cf_P r S T b a3 → post (nI b) (nI F, a1, a2, a3, a4, a5, a6, a7, a8))
    {F e : Nat} {a3 a4 : Nat → Int32} {l q : Nat → Nat} (h : cf_N r S k c 0 F e a3 a4 l q) (hno : ∀ v, v < 6 → T.testBit v = true → F.testBit v = false) :
    ∃ n, wX_spread_93 post J (nI T) (nI k) (nI c) n (nI e) 0 (nI F) a1 a2 a3 a4 a5 a6 a7 a8 := by
  refine pk_loop (σ := Int32 × Int32 × (Nat → Int32) × (Nat → Int32)) (fun n i s => wX_spread_93 post J (nI T) (nI k) (nI c) n s.1 (nI i) s.2.1 a1 a2 s.2.2.1 s.2.2.2 a5 a6 a7 a8)
    (fun i s => ∃ (F e : Nat) (l q : Nat → Nat), s.1 = nI e ∧ s.2.1 = nI F ∧ cf_N r S k c i F e s.2.2.1 s.2.2.2 l q ∧ ∀ v, v < 6 → T.testBit v = true → F.testBit v = false) 6 0 (nI e, nI F, a3, a4) (by omega) ⟨F, e, l, q, rfl, rfl, h, hno⟩ ?_ ?_
  · rintro n ⟨x3, f, b3, b4⟩ ⟨F, e, l, q, h1, h2, h3, h4⟩
    dsimp only at h1 h2 h3
    subst h1 h2
    exact pk_le 6 6 (fun _ => nm_r (nI_1 k) (HJ F e b3 b4 l q h3 h4)) (fun z => absurd z (by omega))
  · rintro n i ⟨x3, f, b3, b4⟩ hi ⟨F, e, l, q, h1, h2, h3, h4⟩ hw
    dsimp only at h1 h2 h3
    subst h1 h2
    have hF := h3.1.1
    have hrb := hr (c * 6 + i) (by omega)
    have hcell : a2 (nI c * 6 + nI i).toNatClampNeg = nI (r (c * 6 + i)) := by
      rw [cf_cl hc hi]
      exact har _ (by omega)
    refine pk_le 6 i (fun z => absurd z (by omega)) (fun _ => ?_)
    refine cf_inb hF hi (fun hb => ⟨cf_in36 hc hi, ?_⟩) (fun hb => nm_r (nI_1 i) (hw (nI e, nI F, b3, b4) ⟨F, e, l, q, rfl, rfl, cf_N_skip h3 hi (Or.inl hb), h4⟩))
    refine pk_le (r (c * 6 + i)) 0 (fun z => nm_r (nI_1 i) (hw (nI e, nI F, b3, b4) ⟨F, e, l, q, rfl, rfl, cf_N_skip h3 hi (Or.inr (by omega)), h4⟩)) (fun z => ?_) hcell
    obtain ⟨he, h5⟩ := cf_N_add h3 hi hc hb z
    refine nm_r (cf_or F hF i hi) ⟨pk_in i 6 hi, nm_r (e' := upd b3 i (nI c)) (by rw [cf_c1 (by omega), cf_byte c hc]) ⟨pk_in e 8 (by omega), nm_r (e' := upd b4 e (nI i)) (by rw [cf_c1 (by omega), cf_byte i hi]) (nm_r (nI_1 e) ?_)⟩⟩
    refine cf_inb hT hi (fun ht => nm_r (nI_1 i) (hw (nI (e + 1), nI (F ||| 2 ^ i), upd b3 i (nI c), upd b4 e (nI i)) ⟨F ||| 2 ^ i, e + 1, _, _, rfl, rfl, h5, fun v hv hv2 => ?_⟩)) (fun ht => HP i (F ||| 2 ^ i) _ _ hi (cf_N_goal h3 hi hc hb z h4 ht))
    have hne : v ≠ i := fun z => by
      rw [z, ht] at hv2
      exact absurd hv2 (by decide)
    rw [cf_or_n hF hi hv hne]
    exact h4 v hv hv2
theorem cf_w68 {post : Int32 → St1 → Prop} {r : Nat → Nat} {S T : Nat} {a1 a2 a5 a6 a7 a8 : Nat → Int32} (har : cf_ar a2 r) (hr : ∀ j, j < 36 → r j ≤ 60) (hT : T < 64)
    (H0 : ∀ (F : Nat) (a3 a4 : Nat → Int32), cf_Z r S T F → post (-1) (nI F, a1, a2, a3, a4, a5, a6, a7, a8))
    (HP : ∀ (b F : Nat) (a3 a4 : Nat → Int32), b < 6 → cf_P r S T b a3 → post (nI b) (nI F, a1, a2, a3, a4, a5, a6, a7, a8))
    {F e : Nat} {a3 a4 : Nat → Int32} {l q : Nat → Nat} (h : cf_Q r S F e a3 a4 l q) (hl : ∀ v, l v = 0) (hS : ∀ v, v < 6 → S.testBit v = true → F.testBit v = true) (hno : ∀ v, v < 6 → T.testBit v = true → F.testBit v = false) :
    ∃ n, wX_spread_68 post (nI T) n (nI e) 0 (nI F) a1 a2 a3 a4 a5 a6 a7 a8 := by
  refine pk_loop (σ := Int32 × Int32 × (Nat → Int32) × (Nat → Int32)) (fun n i s => wX_spread_68 post (nI T) n s.1 (nI i) s.2.1 a1 a2 s.2.2.1 s.2.2.2 a5 a6 a7 a8)
    (fun k s => ∃ (F e : Nat) (l q : Nat → Nat), s.1 = nI e ∧ s.2.1 = nI F ∧ cf_Q r S F e s.2.2.1 s.2.2.2 l q ∧ (∀ v, v < 6 → S.testBit v = true → F.testBit v = true) ∧ (∀ v, v < 6 → T.testBit v = true → F.testBit v = false) ∧
      (∀ i, i < k → i < e → ∀ v, v < 6 → 0 < r (q i * 6 + v) → F.testBit v = true ∧ l v ≤ l (q i) + 1) ∧ (k < e → ∀ i, i < e → l (q i) ≤ l (q k) + 1)) 6 0 (nI e, nI F, a3, a4) (by omega)
    ⟨F, e, l, q, rfl, rfl, h, hS, hno, fun i hi => absurd hi (by omega), fun _ i _ => by rw [hl]; omega⟩ ?_ ?_
  · rintro n ⟨x3, f, b3, b4⟩ ⟨F, e, l, q, h1, h2, h3, h4, h5, h6, h7⟩
    dsimp only at h1 h2 h3
    subst h1 h2
    have he := cf_Q_le h3
    exact pk_le e 6 (fun _ => H0 F b3 b4 (cf_Q_end h3 h4 h5 he h6)) (fun z => absurd z (by omega))
  · rintro n k ⟨x3, f, b3, b4⟩ hk ⟨F, e, l, q, h1, h2, h3, h4, h5, h6, h7⟩ hw
    dsimp only at h1 h2 h3
    subst h1 h2
    have he := cf_Q_le h3
    refine pk_le e k (fun z => H0 F b3 b4 (cf_Q_end h3 h4 h5 z h6)) (fun z => pk_le 6 k (fun z' => absurd z' (by omega)) (fun _ => ⟨pk_in k 8 (by omega), nm_r (e' := nI (q k)) ?_ ?_⟩))
    · rw [cf_c1 (by omega)]
      exact (h3.2.2.1 k z).2.2.1
    · refine cf_w93 (S := S) (k := k) (c := q k) (l := l) (q := q) har hr hT (h3.2.2.1 k z).1 (fun F e a3 a4 l q g gno => ?_) HP ⟨h3, h4, z, rfl, fun i hi => h6 i hi (by omega), h7 z, fun v hv => absurd hv (by omega)⟩ h5
      obtain ⟨g1, g2, g3, g4, g5, g6, g7⟩ := g
      refine hw (nI e, nI F, a3, a4) ⟨F, e, l, q, rfl, rfl, g1, g2, gno, fun i hi hie v hv hrv => ?_, fun hke i hi => ?_⟩
      · by_cases c : i = k
        · rw [c, g4] at hrv ⊢
          exact g7 v (by omega) hv hrv
        · exact g5 i (by omega) v hv hrv
      · have m1 := g6 i hi
        have m2 := g1.2.2.2.2.1 k (k + 1) (by omega) hke
        rw [g4] at m2
        omega
theorem cf_spread {post : Int32 → St1 → Prop} {r : Nat → Nat} {S T : Nat} {f : Int32} {a1 a2 a3 a4 a5 a6 a7 a8 : Nat → Int32} (har : cf_ar a2 r) (hr : ∀ j, j < 36 → r j ≤ 60) (hS : S < 64) (hT : T < 64)
    (hd : ∀ v, v < 6 → S.testBit v = true → T.testBit v = false)
    (H0 : ∀ (F : Nat) (a3 a4 : Nat → Int32), cf_Z r S T F → post (-1) (nI F, a1, a2, a3, a4, a5, a6, a7, a8))
    (HP : ∀ (b F : Nat) (a3 a4 : Nat → Int32), b < 6 → cf_P r S T b a3 → post (nI b) (nI F, a1, a2, a3, a4, a5, a6, a7, a8)) :
    wpX_spread post (f, a1, a2, a3, a4, a5, a6, a7, a8) (nI S) (nI T) := by
  show ∃ n, wX_spread_10 post (nI S) (nI T) n 0 0 0 a1 a2 a3 a4 a5 a6 a7 a8
  refine pk_loop (σ := Int32 × Int32 × (Nat → Int32) × (Nat → Int32)) (fun n i s => wX_spread_10 post (nI S) (nI T) n s.1 (nI i) s.2.1 a1 a2 s.2.2.1 s.2.2.2 a5 a6 a7 a8)
    (fun a s => ∃ (F e : Nat) (l q : Nat → Nat), s.1 = nI e ∧ s.2.1 = nI F ∧ cf_Q r S F e s.2.2.1 s.2.2.2 l q ∧ (∀ v, l v = 0) ∧ (∀ v, v < 6 → v < a → S.testBit v = true → F.testBit v = true) ∧ (∀ v, v < 6 → F.testBit v = true → S.testBit v = true ∧ v < a)) 6 0 (0, 0, a3, a4) (by omega)
    ⟨0, 0, fun _ => 0, fun _ => 0, rfl, rfl, cf_Q_0, fun _ => rfl, fun v _ hv => absurd hv (by omega), fun v _ h => ?_⟩ ?_ ?_
  · rw [Nat.zero_testBit] at h
    exact absurd h (by decide)
  · rintro n ⟨x3, f, b3, b4⟩ ⟨F, e, l, q, h1, h2, h3, h4, h5, h6⟩
    dsimp only at h1 h2 h3
    subst h1 h2
    refine pk_le 6 6 (fun _ => cf_w68 har hr hT H0 HP h3 h4 (fun v hv hs => h5 v hv hv hs) (fun v hv ht => ?_)) (fun z => absurd z (by omega))
    cases c : F.testBit v with
    | false => rfl
    | true =>
      have := hd v hv (h6 v hv c).1
      rw [ht] at this
      exact absurd this (by decide)
  · rintro n i ⟨x3, f, b3, b4⟩ hi ⟨F, e, l, q, h1, h2, h3, h4, h5, h6⟩ hw
    dsimp only at h1 h2 h3
    subst h1 h2
    have hF := h3.1
    have hFi : F.testBit i = false := by
      cases c : F.testBit i with
      | false => rfl
      | true => exact absurd (h6 i hi c).2 (by omega)
    refine pk_le 6 i (fun z => absurd z (by omega)) (fun _ => ?_)
    refine cf_inb hS hi (fun hb => nm_r (nI_1 i) (hw (nI e, nI F, b3, b4) ⟨F, e, l, q, rfl, rfl, h3, h4, fun v hv hva hs => ?_, fun v hv hf => ⟨(h6 v hv hf).1, by have := (h6 v hv hf).2; omega⟩⟩)) (fun hb => ?_)
    · by_cases c : v = i
      · rw [c, hb] at hs
        exact absurd hs (by decide)
      · exact h5 v hv (by omega) hs
    · obtain ⟨he, g⟩ := cf_Q_add (pv := -1) (L := 0) h3 hi hFi (fun j _ => by rw [h4]; exact Nat.le_refl _) (by omega) (Or.inl ⟨hb, rfl, rfl⟩)
      refine nm_r (cf_or F hF i hi) ⟨pk_in i 6 hi, nm_r (e' := upd b3 i (-1)) (by rw [cf_c1 (by omega)]) ⟨pk_in e 8 (by omega), nm_r (e' := upd b4 e (nI i)) (by rw [cf_c1 (by omega), cf_byte i hi]) (nm_r (nI_1 e) (nm_r (nI_1 i) ?_))⟩⟩
      refine hw (nI (e + 1), nI (F ||| 2 ^ i), upd b3 i (-1), upd b4 e (nI i)) ⟨F ||| 2 ^ i, e + 1, _, _, rfl, rfl, g, fun v => ?_, fun v hv hva hs => ?_, fun v hv hf => ?_⟩
      · by_cases c : v = i
        · rw [c, cf_us]
        · rw [cf_un c, h4]
      · by_cases c : v = i
        · rw [c]
          exact cf_or_t hF hi
        · rw [cf_or_n hF hi hv c]
          exact h5 v hv (by omega) hs
      · by_cases c : v = i
        · rw [c]
          exact ⟨hb, by omega⟩
        · rw [cf_or_n hF hi hv c] at hf
          exact ⟨(h6 v hv hf).1, by have := (h6 v hv hf).2; omega⟩
/-! the walk of push -/
theorem cf_w57 {post : Int32 → St1 → Prop} {r x l : Nat → Nat} {P d : Nat} {f : Int32} {a1 a2 a3 a4 a5 a6 a7 a8 : Nat → Int32} (har : cf_ar a2 r) (hx : ∀ i, i ≤ P → x i < 6) (hl : cf_dn x l P)
    (hpar : ∀ i, i < P → a3 (x i) = nI (x (i + 1))) (hend : a3 (x P) = -1) (hd : ∀ i, i < P → d ≤ r (x (i + 1) * 6 + x i))
    (H : ∀ b2, cf_ar b2 (cf_pu r x d P) → post (nI d) (f, a1, b2, a3, a4, a5, a6, a7, a8)) :
    ∃ n, wX_push_57 post (nI d) f n (nI (x 0)) a1 a2 a3 a4 a5 a6 a7 a8 := by
  refine pk_loop (fun n i s => wX_push_57 post (nI d) f n (nI (x i)) a1 s a3 a4 a5 a6 a7 a8) (fun i s => cf_ar s (cf_pu r x d i)) P 0 a2 (by omega) har ?_ ?_
  · intro n s hs
    have h6 := hx P (Nat.le_refl _)
    have e1 : a3 (nI (x P)).toNatClampNeg = -1 := by
      rw [cf_c1 (by omega)]
      exact hend
    exact ⟨pk_in (x P) 6 h6, br_t (by rw [e1]; decide) (H s hs)⟩
  · intro n i s hi hs hw
    have h6 := hx i (by omega)
    have h7 := hx (i + 1) (by omega)
    have e1 : a3 (nI (x i)).toNatClampNeg = nI (x (i + 1)) := by
      rw [cf_c1 (by omega)]
      exact hpar i hi
    have hne : x (i + 1) ≠ x i := cf_dn_ne hl (by omega) (by omega) (by omega)
    have hd' : d ≤ cf_pu r x d i (x (i + 1) * 6 + x i) := by
      rw [cf_pu_rest hx hl i (by omega) i (by omega) (by omega)]
      exact hd i hi
    have hs1 : cf_ar (upd s (x (i + 1) * 6 + x i) (nI (cf_pu r x d i (x (i + 1) * 6 + x i) - d))) (cf_u (cf_pu r x d i) (x (i + 1) * 6 + x i) (cf_pu r x d i (x (i + 1) * 6 + x i) - d)) := cf_ar_u hs rfl
    refine ⟨pk_in (x i) 6 h6, br_f (by rw [e1]; exact nI_pos (by omega)) ⟨pk_in (x i) 6 h6, nm_r e1 ⟨cf_in36 h7 h6, cf_in36 h7 h6, nm_r (e' := upd s (x (i + 1) * 6 + x i) (nI (cf_pu r x d i (x (i + 1) * 6 + x i) - d))) ?_ ⟨cf_in36 h6 h7, cf_in36 h6 h7,
      nm_r (e' := upd (upd s (x (i + 1) * 6 + x i) (nI (cf_pu r x d i (x (i + 1) * 6 + x i) - d))) (x i * 6 + x (i + 1)) (nI (cf_u (cf_pu r x d i) (x (i + 1) * 6 + x i) (cf_pu r x d i (x (i + 1) * 6 + x i) - d) (x i * 6 + x (i + 1)) + d))) ?_ ⟨pk_in (x i) 6 h6, nm_r e1 (hw _ ?_)⟩⟩⟩⟩⟩
    · rw [cf_cl h7 h6, hs _ (by omega), pk_sub hd']
    · rw [cf_cl h6 h7, hs1 _ (by omega), nI_add]
    · exact cf_ar_u hs1 rfl
theorem cf_push {post : Int32 → St1 → Prop} {r x l : Nat → Nat} {P : Nat} {f : Int32} {a1 a2 a3 a4 a5 a6 a7 a8 : Nat → Int32} (har : cf_ar a2 r) (hr : ∀ j, j < 36 → r j ≤ 60) (hP : 1 ≤ P) (hx : ∀ i, i ≤ P → x i < 6) (hl : cf_dn x l P)
    (hpar : ∀ i, i < P → a3 (x i) = nI (x (i + 1)) ∧ 0 < r (x (i + 1) * 6 + x i)) (hend : a3 (x P) = -1)
    (H : ∀ (d i : Nat) (b2 : Nat → Int32), 0 < d → i < P → d = r (x (i + 1) * 6 + x i) → (∀ i, i < P → d ≤ r (x (i + 1) * 6 + x i)) → cf_ar b2 (cf_pu r x d P) → post (nI d) (f, a1, b2, a3, a4, a5, a6, a7, a8)) :
    wpX_push post (f, a1, a2, a3, a4, a5, a6, a7, a8) (nI (x 0)) := by
  show ∃ n, wX_push_5 post (nI (x 0)) f a1 a2 a3 a4 a5 a6 a7 a8 n 1048576 (nI (x 0))
  refine pk_loop (σ := Int32) (fun n i s => wX_push_5 post (nI (x 0)) f a1 a2 a3 a4 a5 a6 a7 a8 n s (nI (x i)))
    (fun i s => ∃ m : Nat, s = nI m ∧ m ≤ 1048576 ∧ (∀ j, j < i → m ≤ r (x (j + 1) * 6 + x j)) ∧ ((i = 0 ∧ m = 1048576) ∨ ∃ j, j < i ∧ m = r (x (j + 1) * 6 + x j))) P 0 1048576 (by omega) ⟨1048576, rfl, by omega, fun j hj => absurd hj (by omega), Or.inl ⟨rfl, rfl⟩⟩ ?_ ?_
  · rintro n s ⟨m, rfl, h1, h2, h3⟩
    have h6 := hx P (Nat.le_refl _)
    have e1 : a3 (nI (x P)).toNatClampNeg = -1 := by
      rw [cf_c1 (by omega)]
      exact hend
    rcases h3 with h3 | ⟨j, h3, h4⟩
    · omega
    · have h0 := (hpar j h3).2
      exact ⟨pk_in (x P) 6 h6, br_t (by rw [e1]; decide) (cf_w57 har hx hl (fun i hi => (hpar i hi).1) hend h2 (fun b2 hb => H m j b2 (by omega) h3 h4 h2 hb))⟩
  · rintro n i s hi ⟨m, rfl, h1, h2, h3⟩ hw
    have h6 := hx i (by omega)
    have h7 := hx (i + 1) (by omega)
    have e1 : a3 (nI (x i)).toNatClampNeg = nI (x (i + 1)) := by
      rw [cf_c1 (by omega)]
      exact (hpar i hi).1
    have hrb := hr (x (i + 1) * 6 + x i) (by omega)
    refine ⟨pk_in (x i) 6 h6, ?_⟩
    rw [e1]
    refine br_f (nI_pos (by omega)) ⟨pk_in (x i) 6 h6, cf_in36 h7 h6, nm_r (e' := nI (r (x (i + 1) * 6 + x i))) ?_ (pk_le m (r (x (i + 1) * 6 + x i)) (fun z => ⟨pk_in (x i) 6 h6, nm_e (hw _ ⟨m, rfl, h1, fun j hj => ?_, Or.inr ?_⟩)⟩) (fun z => ⟨pk_in (x i) 6 h6, nm_e (hw _ ⟨r (x (i + 1) * 6 + x i), rfl, by omega, fun j hj => ?_, Or.inr ⟨i, by omega, rfl⟩⟩)⟩))⟩
    · rw [cf_cl h7 h6]
      exact har _ (by omega)
    · by_cases c : j = i
      · rw [c]
        exact z
      · exact h2 j (by omega)
    · rcases h3 with h3 | ⟨j, h3, h4⟩
      · omega
      · exact ⟨j, by omega, h4⟩
    · by_cases c : j = i
      · rw [c]
        exact Nat.le_refl _
      · have := h2 j (by omega)
        omega
/-! the walk of flow -/
theorem cf_w31 {post : Int32 → St1 → Prop} {C : Nat → Nat} {S T : Nat} {f : Int32} {a1 a2 a3 a4 a5 a6 a7 a8 : Nat → Int32} (har : cf_ar a2 C) (hC : ∀ j, j < 36 → C j ≤ 30) (hS : S < 64) (hT : T < 64)
    (hd : ∀ v, v < 6 → S.testBit v = true → T.testBit v = false)
    (H : ∀ (s X : Nat) (b2 b3 b4 : Nat → Int32), cf_F C S T s X → post (nI s) (nI X, a1, b2, b3, b4, a5, a6, a7, a8)) :
    ∃ n, wX_flow_31 post (nI S) (nI T) n 0 0 f a1 a2 a3 a4 a5 a6 a7 a8 := by
  refine pk_loop (σ := Int32 × Int32 × (Nat → Int32) × (Nat → Int32) × (Nat → Int32)) (fun n i s => wX_flow_31 post (nI S) (nI T) n s.1 (nI i) s.2.1 a1 s.2.2.1 s.2.2.2.1 s.2.2.2.2 a5 a6 a7 a8)
    (fun k s => ∃ (m : Nat) (r : Nat → Nat), s.1 = nI m ∧ cf_ar s.2.2.1 r ∧ cf_pr r ∧ cf_L r S T k ∧
      ∀ Y : Nat → Bool, (∀ v, v < 6 → S.testBit v = true → Y v = true) → (∀ v, v < 6 → T.testBit v = true → Y v = false) → cf_cost C Y = m + cf_cost r Y) 128 0 (0, f, a2, a3, a4) (by omega)
    ⟨0, C, rfl, har, fun u v hu hv => ?_, cf_L_0 hd, fun Y _ _ => (Nat.zero_add _).symm⟩ ?_ ?_
  · have h1 := hC (u * 6 + v) (by omega)
    have h2 := hC (v * 6 + u) (by omega)
    omega
  · rintro n ⟨x3, f, b2, b3, b4⟩ ⟨m, r, h1, h2, h3, h4, h5⟩
    exact absurd (cf_L_k h4) (by omega)
  · rintro n k ⟨x3, f, b2, b3, b4⟩ hk ⟨m, r, h1, h2, h3, h4, h5⟩ hw
    dsimp only at h1 h2
    subst h1
    refine pk_le 128 k (fun z => absurd z (by omega)) (fun _ => ?_)
    refine cf_spread h2 (cf_pr_le h3) hS hT hd (fun F c3 c4 hz => br_f (by decide) (H m F b2 c3 c4 (cf_Z_F hz h5))) (fun b F c3 c4 hb hp => br_t (nI_pos' (by omega)) ?_)
    obtain ⟨P, x, l, p1, p2, p3, p4, p5, p6, p7, p8, p9, p10, p11, p12⟩ := hp
    subst p3
    obtain ⟨l', D, l1, l2, l3, l4, l5, l6⟩ := cf_L_way h4 p2 p5 (fun i hi => (p6 i hi).2) p7 p4 p9 p10 p11 p12
    refine cf_push h2 (cf_pr_le h3) p1 p5 l6 p6 p8 (fun d i c2 d0 hi hd1 hd2 hc2 => nm_r (nI_add m d) (nm_r (nI_1 k) (hw (nI (m + d), nI F, c2, c3, c4) ⟨m + d, cf_pu r x d P, rfl, hc2, cf_pu_pr p5 l6 hd2 h3 P (Nat.le_refl _), cf_L_next p5 l1 l2 l3 l4 l5 l6 hi hd1 d0, fun Y hY hYT => ?_⟩)))
    have c1 := cf_pu_cost p5 l6 hd2 Y P (Nat.le_refl _)
    have c2 := h5 Y hY hYT
    rw [hY (x P) (p5 P (Nat.le_refl _)) p7, hYT (x 0) (p5 0 (by omega)) p4] at c1
    simp only [if_true, Bool.false_eq_true, if_false] at c1
    omega
theorem cf_flow {post : Int32 → St1 → Prop} {C : Nat → Nat} {S T : Nat} {f : Int32} {a1 a2 a3 a4 a5 a6 a7 a8 : Nat → Int32} (hcap : cf_ar a1 C) (hC : ∀ j, j < 36 → C j ≤ 30) (hS : S < 64) (hT : T < 64)
    (hd : ∀ v, v < 6 → S.testBit v = true → T.testBit v = false)
    (H : ∀ (s X : Nat) (b2 b3 b4 : Nat → Int32), cf_F C S T s X → post (nI s) (nI X, a1, b2, b3, b4, a5, a6, a7, a8)) :
    wpX_flow post (f, a1, a2, a3, a4, a5, a6, a7, a8) (nI S) (nI T) := by
  show ∃ n, wX_flow_2 post (nI S) (nI T) f n 0 a1 a2 a3 a4 a5 a6 a7 a8
  refine pk_loop (fun n i s => wX_flow_2 post (nI S) (nI T) f n (nI i) a1 s a3 a4 a5 a6 a7 a8) (fun i s => ∀ j, j < i → s j = nI (C j)) 36 0 a2 (by omega) (fun j hj => absurd hj (by omega)) ?_ ?_
  · intro n s hs
    exact pk_le 36 36 (fun _ => cf_w31 hs hC hS hT hd H) (fun z => absurd z (by omega))
  · intro n i s hi hs hw
    refine pk_le 36 i (fun z => absurd z (by omega)) (fun _ => ⟨pk_in i 36 hi, pk_in i 36 hi, nm_r (e' := upd s i (nI (C i))) ?_ (nm_r (nI_1 i) (hw _ (fun j hj => ?_)))⟩)
    · rw [cf_c1 (by omega), hcap i hi]
    · by_cases c : j = i
      · rw [c, pk_us]
      · rw [pk_un c]
        exact hs j (by omega)
end
section
/-! cuts inside a set of places -/
def cf_cw (j : Nat → Nat) (A p : Nat → Bool) : Nat := cf_D (fun a b => if (A a = true ∧ A b = true) ∧ (p a = true ∧ p b = false) then j (a * 6 + b) else 0)
def cf_w (j : Nat → Nat) (A : Nat → Bool) (u : Nat) : Nat := cf_S (fun b => if A b = true then j (u * 6 + b) else 0) 6
def cf_x (j : Nat → Nat) (A : Nat → Bool) (u : Nat) (p : Nat → Bool) : Nat := cf_S (fun b => if A b = true ∧ p b ≠ p u then j (u * 6 + b) else 0) 6
theorem cf_w_add {j : Nat → Nat} {A A' : Nat → Bool} {v : Nat} (hv : v < 6) (h0 : A v = false) (h1 : A' v = true) (hn : ∀ w, w < 6 → w ≠ v → A' w = A w) (u : Nat) : cf_w j A' u = cf_w j A u + j (u * 6 + v) := by
  have h : cf_w j A' u + (if A v = true then j (u * 6 + v) else 0) = cf_w j A u + (if A' v = true then j (u * 6 + v) else 0) :=
    cf_S_upd (f := fun b => if A b = true then j (u * 6 + b) else 0) (g := fun b => if A' b = true then j (u * 6 + b) else 0) hv (fun w hw hne => by
      show (if A' w = true then j (u * 6 + w) else 0) = if A w = true then j (u * 6 + w) else 0
      rw [hn w hw hne])
  rw [if_neg (by rw [h0]; decide), if_pos h1] at h
  exact h
theorem cf_x_add {j : Nat → Nat} {A A' p : Nat → Bool} {v : Nat} (hv : v < 6) (h0 : A v = false) (h1 : A' v = true) (hn : ∀ w, w < 6 → w ≠ v → A' w = A w) {u : Nat} (hp : p v ≠ p u) : cf_x j A' u p = cf_x j A u p + j (u * 6 + v) := by
  have h : cf_x j A' u p + (if A v = true ∧ p v ≠ p u then j (u * 6 + v) else 0) = cf_x j A u p + (if A' v = true ∧ p v ≠ p u then j (u * 6 + v) else 0) :=
    cf_S_upd (f := fun b => if A b = true ∧ p b ≠ p u then j (u * 6 + b) else 0) (g := fun b => if A' b = true ∧ p b ≠ p u then j (u * 6 + b) else 0) hv (fun w hw hne => by
      show (if A' w = true ∧ p w ≠ p u then j (u * 6 + w) else 0) = if A w = true ∧ p w ≠ p u then j (u * 6 + w) else 0
      rw [hn w hw hne])
  rw [if_neg (fun z => by rw [h0] at z; exact absurd z.1 (by decide)), if_pos ⟨h1, hp⟩] at h
  exact h
theorem cf_cw_add {j : Nat → Nat} {A A' p : Nat → Bool} {v : Nat} (hs : cf_sym j) (hv : v < 6) (h0 : A v = false) (h1 : A' v = true) (hn : ∀ w, w < 6 → w ≠ v → A' w = A w) : cf_cw j A' p = cf_cw j A p + cf_x j A v p := by
  have e1 : cf_cw j A' p = cf_D (fun a b => (if (A a = true ∧ A b = true) ∧ (p a = true ∧ p b = false) then j (a * 6 + b) else 0) + ((if b = v then (if A a = true ∧ (p a = true ∧ p v = false) then j (a * 6 + v) else 0) else 0) + (if a = v then (if A b = true ∧ (p v = true ∧ p b = false) then j (v * 6 + b) else 0) else 0))) := by
    refine cf_D_congr (fun a b ha hb => ?_)
    show (if (A' a = true ∧ A' b = true) ∧ (p a = true ∧ p b = false) then j (a * 6 + b) else 0) = (if (A a = true ∧ A b = true) ∧ (p a = true ∧ p b = false) then j (a * 6 + b) else 0) + ((if b = v then (if A a = true ∧ (p a = true ∧ p v = false) then j (a * 6 + v) else 0) else 0) + (if a = v then (if A b = true ∧ (p v = true ∧ p b = false) then j (v * 6 + b) else 0) else 0))
    by_cases ca : a = v
    · by_cases cb : b = v
      · subst ca cb
        rw [h0]
        cases p b <;> simp
      · subst ca
        rw [h0, h1, hn b hb cb]
        simp [cb]
    · by_cases cb : b = v
      · subst cb
        rw [h0, h1, hn a ha ca]
        simp [ca]
      · rw [hn a ha ca, hn b hb cb]
        simp [ca, cb]
  rw [e1, cf_D_add, cf_D_add, cf_D_col hv, cf_D_row hv]
  show cf_cw j A p + _ = _
  rw [← cf_S_add]
  refine congrArg (fun t => cf_cw j A p + t) (cf_S_congr (fun b hb => ?_))
  show (if A b = true ∧ (p b = true ∧ p v = false) then j (b * 6 + v) else 0) + (if A b = true ∧ (p v = true ∧ p b = false) then j (v * 6 + b) else 0) = if A b = true ∧ p b ≠ p v then j (v * 6 + b) else 0
  rw [hs b v hb hv]
  cases A b <;> cases p b <;> cases p v <;> simp
/-- the order by tightness: what is known of the places not yet added, after l -/
def cf_J (j : Nat → Nat) (Th A : Nat → Bool) (l : Nat) : Prop := ∀ (p : Nat → Bool) (u : Nat), u < 6 → Th u = true → A u = false → p u ≠ p l → cf_w j A u ≤ cf_cw j A p + cf_x j A u p
theorem cf_J_0 {j : Nat → Nat} {Th A : Nat → Bool} (h : ∀ w, w < 6 → A w = false) (l : Nat) : cf_J j Th A l := by
  intro p u _ _ _ _
  have e : cf_w j A u = 0 := cf_S_0 (fun w hw => by
    show (if A w = true then j (u * 6 + w) else 0) = 0
    rw [h w hw]
    rfl)
  omega
theorem cf_J_step {j : Nat → Nat} {Th A A' : Nat → Bool} {l v : Nat} (hs : cf_sym j) (hv : v < 6) (hT : Th v = true) (h0 : A v = false) (h1 : A' v = true) (hn : ∀ w, w < 6 → w ≠ v → A' w = A w)
    (hm : ∀ u, u < 6 → Th u = true → A u = false → cf_w j A u ≤ cf_w j A v) (h : cf_J j Th A l) : cf_J j Th A' v := by
  intro p u hu hTu hA hp
  have hne : u ≠ v := fun z => hp (by rw [z])
  rw [hn u hu hne] at hA
  rw [cf_w_add hv h0 h1 hn, cf_cw_add hs hv h0 h1 hn, cf_x_add hv h0 h1 hn (fun z => hp z.symm)]
  by_cases c : p v = p l
  · have := h p u hu hTu hA (fun z => hp (by rw [z, c]))
    omega
  · have m1 := h p v hv hT h0 c
    have m2 := hm u hu hTu hA
    omega
theorem cf_J_sel {j : Nat → Nat} {Th A A' : Nat → Bool} {l v : Nat} (hs : cf_sym j) (hv : v < 6) (hT : Th v = true) (h0 : A v = false) (h1 : A' v = true) (hn : ∀ w, w < 6 → w ≠ v → A' w = A w) (h : cf_J j Th A l) :
    ∀ p : Nat → Bool, p v ≠ p l → cf_w j A v ≤ cf_cw j A' p := by
  intro p hp
  rw [cf_cw_add hs hv h0 h1 hn]
  exact h p v hv hT h0 hp
theorem cf_cw_one {j : Nat → Nat} {A A' : Nat → Bool} {v : Nat} (hs : cf_sym j) (hv : v < 6) (h0 : A v = false) (h1 : A' v = true) (hn : ∀ w, w < 6 → w ≠ v → A' w = A w) : cf_cw j A' (fun w => decide (w = v)) = cf_w j A v := by
  rw [cf_cw_add hs hv h0 h1 hn]
  have e1 : cf_cw j A (fun w => decide (w = v)) = 0 := by
    refine cf_D_0 (fun a b ha hb => ?_)
    show (if (A a = true ∧ A b = true) ∧ (decide (a = v) = true ∧ decide (b = v) = false) then j (a * 6 + b) else 0) = 0
    refine if_neg (fun z => ?_)
    have c : a = v := of_decide_eq_true z.2.1
    have d := z.1.1
    rw [c, h0] at d
    exact absurd d (by decide)
  have e2 : cf_x j A v (fun w => decide (w = v)) = cf_w j A v := by
    refine cf_S_congr (fun b hb => ?_)
    show (if A b = true ∧ decide (b = v) ≠ decide (v = v) then j (v * 6 + b) else 0) = if A b = true then j (v * 6 + b) else 0
    by_cases c : b = v
    · subst c
      rw [h0]
      simp
    · rw [decide_eq_false c, decide_eq_true (rfl : v = v)]
      simp
  rw [e1, e2, Nat.zero_add]
/-! putting t to s -/
def cf_mg (j : Nat → Nat) (s t : Nat) : Nat → Nat → Nat
  | 0 => j
  | c + 1 => cf_u (cf_u (cf_mg j s t c) (s * 6 + c) (cf_mg j s t c (s * 6 + c) + cf_mg j s t c (t * 6 + c))) (c * 6 + s) (cf_mg j s t c (s * 6 + c) + cf_mg j s t c (t * 6 + c))
theorem cf_mg_at {j : Nat → Nat} {s t : Nat} (hs : s < 6) (ht : t < 6) (hst : s ≠ t) : ∀ c, c ≤ 6 →
    (∀ v, v < 6 → v ≠ s → cf_mg j s t c (s * 6 + v) = if v < c then j (s * 6 + v) + j (t * 6 + v) else j (s * 6 + v)) ∧
    (∀ u, u < 6 → u ≠ s → cf_mg j s t c (u * 6 + s) = if u < c then j (s * 6 + u) + j (t * 6 + u) else j (u * 6 + s)) ∧
    (∀ u v, u < 6 → v < 6 → u ≠ s → v ≠ s → cf_mg j s t c (u * 6 + v) = j (u * 6 + v)) := by
  intro c
  induction c with
  | zero => exact fun _ => ⟨fun v _ _ => (if_neg (by omega)).symm, fun u _ _ => (if_neg (by omega)).symm, fun u v _ _ _ _ => rfl⟩
  | succ c ih =>
    intro hc
    obtain ⟨i1, i2, i3⟩ := ih (by omega)
    have hy : c ≠ s → cf_mg j s t c (s * 6 + c) + cf_mg j s t c (t * 6 + c) = j (s * 6 + c) + j (t * 6 + c) := by
      intro hcs
      rw [i1 c (by omega) hcs, if_neg (by omega), i3 t c ht (by omega) (fun z => hst z.symm) hcs]
    refine ⟨fun v hv hvs => ?_, fun u hu hus => ?_, fun u v hu hv hus hvs => ?_⟩
    · show cf_u (cf_u (cf_mg j s t c) (s * 6 + c) (cf_mg j s t c (s * 6 + c) + cf_mg j s t c (t * 6 + c))) (c * 6 + s) (cf_mg j s t c (s * 6 + c) + cf_mg j s t c (t * 6 + c)) (s * 6 + v) = _
      rw [cf_un (by omega)]
      by_cases e : v = c
      · subst e
        rw [cf_us, hy hvs, if_pos (by omega)]
      · rw [cf_un (by omega), i1 v hv hvs]
        by_cases g : v < c
        · rw [if_pos g, if_pos (by omega)]
        · rw [if_neg g, if_neg (by omega)]
    · show cf_u (cf_u (cf_mg j s t c) (s * 6 + c) (cf_mg j s t c (s * 6 + c) + cf_mg j s t c (t * 6 + c))) (c * 6 + s) (cf_mg j s t c (s * 6 + c) + cf_mg j s t c (t * 6 + c)) (u * 6 + s) = _
      by_cases e : u = c
      · subst e
        rw [cf_us, hy hus, if_pos (by omega)]
      · rw [cf_un (by omega), cf_un (by omega), i2 u hu hus]
        by_cases g : u < c
        · rw [if_pos g, if_pos (by omega)]
        · rw [if_neg g, if_neg (by omega)]
    · show cf_u (cf_u (cf_mg j s t c) (s * 6 + c) (cf_mg j s t c (s * 6 + c) + cf_mg j s t c (t * 6 + c))) (c * 6 + s) (cf_mg j s t c (s * 6 + c) + cf_mg j s t c (t * 6 + c)) (u * 6 + v) = _
      rw [cf_un (by omega), cf_un (by omega)]
      exact i3 u v hu hv hus hvs
/-- j' is j with t put to s -/
def cf_G (j : Nat → Nat) (s t : Nat) (j' : Nat → Nat) : Prop := (∀ v, v < 6 → v ≠ s → j' (s * 6 + v) = j (s * 6 + v) + j (t * 6 + v)) ∧ (∀ u, u < 6 → u ≠ s → j' (u * 6 + s) = j (s * 6 + u) + j (t * 6 + u)) ∧
  (∀ u v, u < 6 → v < 6 → u ≠ s → v ≠ s → j' (u * 6 + v) = j (u * 6 + v)) ∧ j' (s * 6 + s) = 0
theorem cf_mg_G {j : Nat → Nat} {s t : Nat} (hs : s < 6) (ht : t < 6) (hst : s ≠ t) : cf_G j s t (cf_u (cf_mg j s t 6) (s * 6 + s) 0) := by
  obtain ⟨h1, h2, h3⟩ := cf_mg_at (j := j) hs ht hst 6 (Nat.le_refl _)
  refine ⟨fun v hv hn => ?_, fun u hu hn => ?_, fun u v hu hv hus hvs => ?_, cf_us⟩
  · rw [cf_un (by omega), h1 v hv hn, if_pos hv]
  · rw [cf_un (by omega), h2 u hu hn, if_pos hu]
  · rw [cf_un (by omega), h3 u v hu hv hus hvs]
theorem cf_G_sym {j j' : Nat → Nat} {s t : Nat} (hj : cf_sym j) (h : cf_G j s t j') : cf_sym j' := by
  obtain ⟨h1, h2, h3, h4⟩ := h
  intro a b ha hb
  by_cases ca : a = s
  · by_cases cb : b = s
    · rw [ca, cb]
    · rw [ca, h1 b hb cb, h2 b hb cb]
  · by_cases cb : b = s
    · rw [cb, h1 a ha ca, h2 a ha ca]
    · rw [h3 a b ha hb ca cb, h3 b a hb ha cb ca]
      exact hj a b ha hb
theorem cf_G_b {j j' : Nat → Nat} {s t B : Nat} (hs : s < 6) (ht : t < 6) (hj : ∀ i, i < 36 → j i ≤ B) (h : cf_G j s t j') : ∀ i, i < 36 → j' i ≤ 2 * B := by
  obtain ⟨h1, h2, h3, h4⟩ := h
  have key : ∀ a b, a < 6 → b < 6 → j' (a * 6 + b) ≤ 2 * B := by
    intro a b ha hb
    by_cases ca : a = s
    · by_cases cb : b = s
      · rw [ca, cb, h4]
        exact Nat.zero_le _
      · have m1 := hj (s * 6 + b) (by omega)
        have m2 := hj (t * 6 + b) (by omega)
        rw [ca, h1 b hb cb]
        omega
    · by_cases cb : b = s
      · have m1 := hj (s * 6 + a) (by omega)
        have m2 := hj (t * 6 + a) (by omega)
        rw [cb, h2 a ha ca]
        omega
      · have m1 := hj (a * 6 + b) (by omega)
        rw [h3 a b ha hb ca cb]
        omega
  intro i hi
  have := key (i / 6) (i % 6) (by omega) (by omega)
  rw [show i / 6 * 6 + i % 6 = i by omega] at this
  exact this
theorem cf_G_cw {j j' : Nat → Nat} {Th Th' p p' : Nat → Bool} {s t : Nat} (hj : cf_sym j) (h : cf_G j s t j') (hs : s < 6) (ht : t < 6) (hst : s ≠ t) (hTs : Th s = true) (hTt : Th t = true) (h0 : Th' t = false)
    (hn : ∀ w, w < 6 → w ≠ t → Th' w = Th w) (hp : p' t = p s) (hpn : ∀ w, w < 6 → w ≠ t → p' w = p w) : cf_cw j' Th' p = cf_cw j Th p' := by
  obtain ⟨h1, h2, h3, h4⟩ := h
  have hgt : ∀ x : Nat, (if (Th t = true ∧ Th t = true) ∧ (p' t = true ∧ p' t = false) then x else 0) = 0 := by
    intro x
    refine if_neg (fun z => ?_)
    rw [z.2.1] at z
    exact absurd z.2.2 (by decide)
  have e1 : cf_cw j Th p' = cf_D (fun a b => (if a ≠ t ∧ b ≠ t then (if (Th a = true ∧ Th b = true) ∧ (p' a = true ∧ p' b = false) then j (a * 6 + b) else 0) else 0) + ((if b = t then (if (Th a = true ∧ Th t = true) ∧ (p' a = true ∧ p' t = false) then j (a * 6 + t) else 0) else 0) + (if a = t then (if (Th t = true ∧ Th b = true) ∧ (p' t = true ∧ p' b = false) then j (t * 6 + b) else 0) else 0))) := by
    refine cf_D_congr (fun a b ha hb => ?_)
    show (if (Th a = true ∧ Th b = true) ∧ (p' a = true ∧ p' b = false) then j (a * 6 + b) else 0) = (if a ≠ t ∧ b ≠ t then (if (Th a = true ∧ Th b = true) ∧ (p' a = true ∧ p' b = false) then j (a * 6 + b) else 0) else 0) + ((if b = t then (if (Th a = true ∧ Th t = true) ∧ (p' a = true ∧ p' t = false) then j (a * 6 + t) else 0) else 0) + (if a = t then (if (Th t = true ∧ Th b = true) ∧ (p' t = true ∧ p' b = false) then j (t * 6 + b) else 0) else 0))
    by_cases ca : a = t
    · rw [if_neg (fun z : a ≠ t ∧ b ≠ t => z.1 ca), if_pos ca]
      by_cases cb : b = t
      · rw [ca, cb, hgt]
        simp
      · rw [ca, if_neg cb]
        omega
    · rw [if_neg ca]
      by_cases cb : b = t
      · rw [if_neg (fun z : a ≠ t ∧ b ≠ t => z.2 cb), if_pos cb, cb]
        omega
      · rw [if_pos (show a ≠ t ∧ b ≠ t from ⟨ca, cb⟩), if_neg cb]
        omega
  have e2 : cf_cw j' Th' p = cf_D (fun a b => (if a ≠ t ∧ b ≠ t then (if (Th a = true ∧ Th b = true) ∧ (p' a = true ∧ p' b = false) then j (a * 6 + b) else 0) else 0) + ((if b = s then (if (Th a = true ∧ Th t = true) ∧ (p' a = true ∧ p' t = false) then j (a * 6 + t) else 0) else 0) + (if a = s then (if (Th t = true ∧ Th b = true) ∧ (p' t = true ∧ p' b = false) then j (t * 6 + b) else 0) else 0))) := by
    refine cf_D_congr (fun a b ha hb => ?_)
    show (if (Th' a = true ∧ Th' b = true) ∧ (p a = true ∧ p b = false) then j' (a * 6 + b) else 0) = (if a ≠ t ∧ b ≠ t then (if (Th a = true ∧ Th b = true) ∧ (p' a = true ∧ p' b = false) then j (a * 6 + b) else 0) else 0) + ((if b = s then (if (Th a = true ∧ Th t = true) ∧ (p' a = true ∧ p' t = false) then j (a * 6 + t) else 0) else 0) + (if a = s then (if (Th t = true ∧ Th b = true) ∧ (p' t = true ∧ p' b = false) then j (t * 6 + b) else 0) else 0))
    by_cases ca : a = t
    · rw [if_neg (fun z : a ≠ t ∧ b ≠ t => z.1 ca), ca, h0, if_neg (fun z : t = s => hst z.symm), hgt]
      simp
    · by_cases cb : b = t
      · rw [if_neg (fun z : a ≠ t ∧ b ≠ t => z.2 cb), cb, h0, if_neg (fun z : t = s => hst z.symm), hgt]
        simp
      · rw [if_pos (show a ≠ t ∧ b ≠ t from ⟨ca, cb⟩), hn a ha ca, hn b hb cb, hpn a ha ca, hpn b hb cb, hp, hTt]
        by_cases da : a = s
        · by_cases db : b = s
          · rw [da, db, hTs]
            cases p s <;> simp
          · rw [da, hTs, if_neg db, if_pos rfl, h1 b hb db]
            cases Th b <;> cases p s <;> cases p b <;> simp
        · by_cases db : b = s
          · rw [db, hTs, if_neg da, if_pos rfl, h2 a ha da, hj s a hs ha, hj t a ht ha]
            cases Th a <;> cases p s <;> cases p a <;> simp
          · rw [if_neg da, if_neg db, h3 a b ha hb da db]
            omega
  rw [e1, e2, cf_D_add, cf_D_add, cf_D_col hs, cf_D_row hs, cf_D_add, cf_D_add, cf_D_col ht, cf_D_row ht]
/-- a side that is neither empty nor all -/
def cf_nt (Th p : Nat → Bool) : Prop := (∃ a, a < 6 ∧ Th a = true ∧ p a = true) ∧ (∃ b, b < 6 ∧ Th b = true ∧ p b = false)
def cf_nv (p : Nat → Bool) : Prop := (∃ a, a < 6 ∧ p a = true) ∧ (∃ b, b < 6 ∧ p b = false)
/-- the answer of least -/
def cf_M (C : Nat → Nat) (m : Nat) : Prop := (∀ p, cf_nv p → m ≤ cf_cost C p) ∧ ∃ p, cf_nv p ∧ cf_cost C p = m
theorem cf_M_uni {C : Nat → Nat} {m m' : Nat} (h : cf_M C m) (h' : cf_M C m') : m = m' := by
  obtain ⟨h1, p, h2, h3⟩ := h
  obtain ⟨g1, q, g2, g3⟩ := h'
  have a := h1 q g2
  have b := g1 p h2
  omega
/-- between the phases -/
def cf_ph (C j : Nat → Nat) (Th : Nat → Bool) (best : Nat) : Prop := (∀ p, cf_nv p → best ≤ cf_cost C p ∨ ∃ p', cf_nt Th p' ∧ cf_cw j Th p' ≤ cf_cost C p) ∧ (∀ p', cf_nt Th p' → ∃ p, cf_nv p ∧ cf_cost C p ≤ cf_cw j Th p') ∧ ∃ p, cf_nv p ∧ cf_cost C p ≤ best
theorem cf_ph_0 {C j : Nat → Nat} {Th : Nat → Bool} {best : Nat} (hC : ∀ i, i < 36 → C i ≤ 30) (hj : ∀ i, i < 36 → j i = C i) (hT : ∀ v, v < 6 → Th v = true) (hb : 1080 ≤ best) : cf_ph C j Th best := by
  have e : ∀ p, cf_cw j Th p = cf_cost C p := by
    intro p
    refine cf_D_congr (fun a b ha hb => ?_)
    show (if (Th a = true ∧ Th b = true) ∧ (p a = true ∧ p b = false) then j (a * 6 + b) else 0) = if p a = true ∧ p b = false then C (a * 6 + b) else 0
    rw [hT a ha, hT b hb, hj _ (by omega)]
    cases p a <;> cases p b <;> simp
  refine ⟨fun p hp => Or.inr ⟨p, ?_, Nat.le_of_eq (e p)⟩, fun p hp => ⟨p, ?_, Nat.le_of_eq (e p).symm⟩, fun w => decide (w = 0), ?_, ?_⟩
  · obtain ⟨⟨a, h1, h2⟩, b, h3, h4⟩ := hp
    exact ⟨⟨a, h1, hT a h1, h2⟩, b, h3, hT b h3, h4⟩
  · obtain ⟨⟨a, h1, _, h2⟩, b, h3, _, h4⟩ := hp
    exact ⟨⟨a, h1, h2⟩, b, h3, h4⟩
  · exact ⟨⟨0, by omega, rfl⟩, 1, by omega, rfl⟩
  · have := cf_cost_b hC (fun w => decide (w = 0))
    omega
theorem cf_ph_step {C j j' : Nat → Nat} {Th Th' : Nat → Bool} {best s t d : Nat} (h : cf_ph C j Th best) (hj : cf_sym j) (hs : s < 6) (ht : t < 6) (hst : s ≠ t) (hTs : Th s = true) (hTt : Th t = true) (h0 : Th' t = false)
    (hn : ∀ w, w < 6 → w ≠ t → Th' w = Th w) (hg : cf_G j s t j') (hd : ∀ p : Nat → Bool, p t ≠ p s → d ≤ cf_cw j Th p) (he : d = cf_cw j Th (fun w => decide (w = t))) : cf_ph C j' Th' (if best ≤ d then best else d) := by
  obtain ⟨h1, h2, h3⟩ := h
  have hb1 : (if best ≤ d then best else d) ≤ best := by
    by_cases c : best ≤ d
    · rw [if_pos c]
      exact Nat.le_refl _
    · rw [if_neg c]
      omega
  have hb2 : (if best ≤ d then best else d) ≤ d := by
    by_cases c : best ≤ d
    · rw [if_pos c]
      exact c
    · rw [if_neg c]
      exact Nat.le_refl _
  refine ⟨fun p hp => ?_, fun p hp => ?_, ?_⟩
  · rcases h1 p hp with c | ⟨p', n', c⟩
    · exact Or.inl (by omega)
    · by_cases e : p' t = p' s
      · refine Or.inr ⟨p', ?_, ?_⟩
        · obtain ⟨⟨a, a1, a2, a3⟩, b, b1, b2, b3⟩ := n'
          refine ⟨?_, ?_⟩
          · by_cases ea : a = t
            · exact ⟨s, hs, by rw [hn s hs hst]; exact hTs, by rw [← e, ← ea]; exact a3⟩
            · exact ⟨a, a1, by rw [hn a a1 ea]; exact a2, a3⟩
          · by_cases eb : b = t
            · exact ⟨s, hs, by rw [hn s hs hst]; exact hTs, by rw [← e, ← eb]; exact b3⟩
            · exact ⟨b, b1, by rw [hn b b1 eb]; exact b2, b3⟩
        · rw [cf_G_cw hj hg hs ht hst hTs hTt h0 hn e (fun _ _ _ => rfl)]
          exact c
      · have := hd p' e
        exact Or.inl (by omega)
  · have e := cf_G_cw (p := p) (p' := fun w => if w = t then p s else p w) hj hg hs ht hst hTs hTt h0 hn (if_pos rfl) (fun w _ hw => if_neg hw)
    rw [e]
    refine h2 _ ?_
    obtain ⟨⟨a, a1, a2, a3⟩, b, b1, b2, b3⟩ := hp
    refine ⟨⟨a, a1, ?_, ?_⟩, b, b1, ?_, ?_⟩
    · rw [← hn a a1 (fun z => by rw [z, h0] at a2; exact absurd a2 (by decide))]
      exact a2
    · show (if a = t then p s else p a) = true
      rw [if_neg (fun z => by rw [z, h0] at a2; exact absurd a2 (by decide))]
      exact a3
    · rw [← hn b b1 (fun z => by rw [z, h0] at b2; exact absurd b2 (by decide))]
      exact b2
    · show (if b = t then p s else p b) = false
      rw [if_neg (fun z => by rw [z, h0] at b2; exact absurd b2 (by decide))]
      exact b3
  · by_cases c : best ≤ d
    · rw [if_pos c]
      exact h3
    · rw [if_neg c, he]
      exact h2 _ ⟨⟨t, ht, hTt, decide_eq_true rfl⟩, s, hs, hTs, decide_eq_false hst⟩
theorem cf_ph_end {C j : Nat → Nat} {Th : Nat → Bool} {best : Nat} (h : cf_ph C j Th best) (hc : cf_cnt Th ≤ 1) : cf_M C best := by
  obtain ⟨h1, h2, p, h3, h4⟩ := h
  have no : ∀ p', ¬ cf_nt Th p' := by
    rintro p' ⟨⟨a, a1, a2, a3⟩, b, b1, b2, b3⟩
    have hab : b ≠ a := fun z => by
      rw [z, a3] at b3
      exact absurd b3 (by decide)
    have c0 : cf_cnt (fun _ => false) = 0 := cf_S_0 (fun _ _ => rfl)
    have c1 : cf_cnt (fun w => decide (w = a)) = cf_cnt (fun _ => false) + 1 := cf_cnt_add (p := fun _ => false) (q := fun w => decide (w = a)) a1 rfl (decide_eq_true rfl) (fun w _ hw => decide_eq_false hw)
    have c2 : cf_cnt (fun w => decide (w = a) || decide (w = b)) = cf_cnt (fun w => decide (w = a)) + 1 := by
      refine cf_cnt_add (p := fun w => decide (w = a)) (q := fun w => decide (w = a) || decide (w = b)) b1 (decide_eq_false hab) ?_ (fun w _ hw => ?_)
      · show (decide (b = a) || decide (b = b)) = true
        rw [decide_eq_true (rfl : b = b), Bool.or_true]
      · show (decide (w = a) || decide (w = b)) = decide (w = a)
        rw [decide_eq_false hw, Bool.or_false]
    have c3 : cf_cnt (fun w => decide (w = a) || decide (w = b)) ≤ cf_cnt Th := by
      refine cf_cnt_mono (fun w hw e => ?_)
      have e' : (decide (w = a) || decide (w = b)) = true := e
      rcases Bool.or_eq_true_iff.mp e' with e1 | e1
      · rw [of_decide_eq_true e1]
        exact a2
      · rw [of_decide_eq_true e1]
        exact b2
    omega
  have lo : ∀ p, cf_nv p → best ≤ cf_cost C p := by
    intro p hp
    rcases h1 p hp with c | ⟨p', n', _⟩
    · exact c
    · exact absurd n' (no p')
  exact ⟨lo, p, h3, by have := lo p h3; omega⟩
end
section
/-! the walk of tightest -/
theorem cf_w_b {j : Nat → Nat} {A : Nat → Bool} {u B : Nat} (hu : u < 6) (hj : ∀ i, i < 36 → j i ≤ B) : cf_w j A u ≤ 6 * B := by
  refine cf_S_b (fun b hb => ?_)
  show (if A b = true then j (u * 6 + b) else 0) ≤ B
  have := hj (u * 6 + b) (by omega)
  cases A b with
  | true => exact this
  | false => exact Nat.zero_le _
theorem cf_t36 {post : Int32 → St1 → Prop} {J : Int32 → Int32 → (Nat → Int32) → (Nat → Int32) → (Nat → Int32) → (Nat → Int32) → (Nat → Int32) → (Nat → Int32) → (Nat → Int32) → (Nat → Int32) → Prop}
    {j : Nat → Nat} {A a : Nat} {x1 x3 f : Int32} {a1 a2 a3 a4 a5 a6 a7 a8 : Nat → Int32} (haj : cf_ar a5 j) (hA : A < 64) (ha : a < 6) (hw : cf_w j A.testBit a < 2 ^ 31)
    (H : (x3 = -1 ∧ J (nI a) (nI (a + 1)) a1 a2 a3 a4 a5 (upd a6 a (nI (cf_w j A.testBit a))) a7 a8) ∨ (∃ b, b < 6 ∧ b ≠ a ∧ x3 = nI b ∧ a6 b = nI (cf_w j A.testBit b) ∧ cf_w j A.testBit b < 2 ^ 31 ∧
      (cf_w j A.testBit a ≤ cf_w j A.testBit b → J (nI b) (nI (a + 1)) a1 a2 a3 a4 a5 (upd a6 a (nI (cf_w j A.testBit a))) a7 a8) ∧ (cf_w j A.testBit b < cf_w j A.testBit a → J (nI a) (nI (a + 1)) a1 a2 a3 a4 a5 (upd a6 a (nI (cf_w j A.testBit a))) a7 a8))) :
    ∃ n, wX_tightest_36 post J x1 (nI A) x3 (nI a) f a1 a2 a3 a4 a5 a6 a7 a8 n 0 0 := by
  refine pk_loop (σ := Unit) (fun n i _ => wX_tightest_36 post J x1 (nI A) x3 (nI a) f a1 a2 a3 a4 a5 a6 a7 a8 n (nI (cf_S (fun b => if A.testBit b = true then j (a * 6 + b) else 0) i)) (nI i)) (fun _ _ => True) 6 0 () (by omega) trivial ?_ ?_
  · intro n _ _
    show wX_tightest_36 post J x1 (nI A) x3 (nI a) f a1 a2 a3 a4 a5 a6 a7 a8 (n + 1) (nI (cf_w j A.testBit a)) (nI 6)
    refine pk_le 6 6 (fun _ => ⟨pk_in a 6 ha, nm_r (e' := upd a6 a (nI (cf_w j A.testBit a))) (by rw [cf_c1 (by omega)]) ?_⟩) (fun z => absurd z (by omega))
    rcases H with ⟨h1, h2⟩ | ⟨b, b1, b2, b3, b4, b5, b6, b7⟩
    · exact br_t (by rw [h1]; decide) (nm_r (nI_1 a) h2)
    · subst b3
      exact br_f (nI_pos (by omega)) ⟨pk_in b 6 b1, pk_le (cf_w j A.testBit a) (cf_w j A.testBit b) (fun z => nm_r (nI_1 a) (b6 z)) (fun z => nm_r (nI_1 a) (b7 z)) rfl (by rw [cf_c1 (by omega), pk_un b2]; exact b4)⟩
  · intro n i _ hi _ hw
    refine pk_le 6 i (fun z => absurd z (by omega)) (fun _ => cf_inb hA hi (fun hb => nm_r (e' := nI (cf_S (fun b => if A.testBit b = true then j (a * 6 + b) else 0) (i + 1))) ?_ (nm_r (nI_1 i) (hw () trivial)))
      (fun hb => ⟨cf_in36 ha hi, nm_r (e' := nI (cf_S (fun b => if A.testBit b = true then j (a * 6 + b) else 0) (i + 1))) ?_ (nm_r (nI_1 i) (hw () trivial))⟩))
    · show nI (cf_S (fun b => if A.testBit b = true then j (a * 6 + b) else 0) i) + nI 0 = nI (cf_S (fun b => if A.testBit b = true then j (a * 6 + b) else 0) i + (if A.testBit i = true then j (a * 6 + i) else 0))
      rw [nI_add, hb]
      rfl
    · show _ = nI (cf_S (fun b => if A.testBit b = true then j (a * 6 + b) else 0) i + (if A.testBit i = true then j (a * 6 + i) else 0))
      rw [cf_cl ha hi, haj _ (by omega), nI_add, if_pos hb]
theorem cf_tight {post : Int32 → St1 → Prop} {j : Nat → Nat} {Th A B : Nat} {f : Int32} {a1 a2 a3 a4 a5 a6 a7 a8 : Nat → Int32} (haj : cf_ar a5 j) (hj : ∀ i, i < 36 → j i ≤ B) (hB : B ≤ 960) (hTh : Th < 64) (hA : A < 64)
    (hne : ∃ v, v < 6 ∧ Th.testBit v = true ∧ A.testBit v = false)
    (H : ∀ (b : Nat) (b6 : Nat → Int32), b < 6 → Th.testBit b = true → A.testBit b = false → (∀ u, u < 6 → Th.testBit u = true → A.testBit u = false → cf_w j A.testBit u ≤ cf_w j A.testBit b) → b6 b = nI (cf_w j A.testBit b) →
      post (nI b) (f, a1, a2, a3, a4, a5, b6, a7, a8)) : wpX_tightest post (f, a1, a2, a3, a4, a5, a6, a7, a8) (nI Th) (nI A) := by
  have hwb : ∀ u, u < 6 → cf_w j A.testBit u < 2 ^ 31 := fun u hu => by
    have := cf_w_b (A := A.testBit) hu hj
    omega
  show ∃ n, wX_tightest_5 post (nI Th) (nI A) f n (-1) 0 a1 a2 a3 a4 a5 a6 a7 a8
  refine pk_loop (σ := Int32 × (Nat → Int32)) (fun n i s => wX_tightest_5 post (nI Th) (nI A) f n s.1 (nI i) a1 a2 a3 a4 a5 s.2 a7 a8)
    (fun a s => (∀ u, u < 6 → u < a → Th.testBit u = true → A.testBit u = false → s.2 u = nI (cf_w j A.testBit u)) ∧ ((s.1 = -1 ∧ ∀ u, u < 6 → u < a → ¬ (Th.testBit u = true ∧ A.testBit u = false)) ∨
      ∃ b, b < 6 ∧ b < a ∧ s.1 = nI b ∧ Th.testBit b = true ∧ A.testBit b = false ∧ ∀ u, u < 6 → u < a → Th.testBit u = true → A.testBit u = false → cf_w j A.testBit u ≤ cf_w j A.testBit b)) 6 0 (-1, a6) (by omega)
    ⟨fun u _ hu => absurd hu (by omega), Or.inl ⟨rfl, fun u _ hu => absurd hu (by omega)⟩⟩ ?_ ?_
  · rintro n ⟨x3, b6⟩ ⟨h1, h2⟩
    dsimp only at h1 h2
    refine pk_le 6 6 (fun _ => ?_) (fun z => absurd z (by omega))
    rcases h2 with ⟨_, h3⟩ | ⟨b, g1, g2, g3, g4, g5, g6⟩
    · obtain ⟨v, v1, v2, v3⟩ := hne
      exact absurd ⟨v2, v3⟩ (h3 v v1 v1)
    · subst g3
      exact H b b6 g1 g4 g5 (fun u hu h7 h8 => g6 u hu hu h7 h8) (h1 b g1 g1 g4 g5)
  · rintro n i ⟨x3, b6⟩ hi ⟨h1, h2⟩ hw
    dsimp only at h1 h2
    have skip : ¬ (Th.testBit i = true ∧ A.testBit i = false) → wX_tightest_5 post (nI Th) (nI A) f n x3 (nI (i + 1)) a1 a2 a3 a4 a5 b6 a7 a8 := by
      intro hno
      have le : ∀ u, u < i + 1 → Th.testBit u = true → A.testBit u = false → u < i := by
        intro u hu t1 t2
        by_cases c : u = i
        · rw [c] at t1 t2
          exact absurd ⟨t1, t2⟩ hno
        · omega
      refine hw (x3, b6) ⟨fun u hu hui t1 t2 => h1 u hu (le u hui t1 t2) t1 t2, ?_⟩
      rcases h2 with ⟨h3, h4⟩ | ⟨b, g1, g2, g3, g4, g5, g6⟩
      · exact Or.inl ⟨h3, fun u hu hui t => h4 u hu (le u hui t.1 t.2) t⟩
      · exact Or.inr ⟨b, g1, by omega, g3, g4, g5, fun u hu hui t1 t2 => g6 u hu (le u hui t1 t2) t1 t2⟩
    refine pk_le 6 i (fun z => absurd z (by omega)) (fun _ => cf_inb hTh hi (fun hb => nm_r (nI_1 i) (skip (fun z => ?_))) (fun hb => cf_inb hA hi (fun hc => ?_) (fun hc => nm_r (nI_1 i) (skip (fun z => ?_)))))
    · rw [hb] at z
      exact absurd z.1 (by decide)
    · have st : ∀ u, u < 6 → u < i + 1 → Th.testBit u = true → A.testBit u = false → upd b6 i (nI (cf_w j A.testBit i)) u = nI (cf_w j A.testBit u) := by
        intro u hu hui t1 t2
        by_cases c : u = i
        · rw [c, pk_us]
        · rw [pk_un c]
          exact h1 u hu (by omega) t1 t2
      refine cf_t36 haj hA hi (hwb i hi) ?_
      rcases h2 with ⟨h3, h4⟩ | ⟨b, g1, g2, g3, g4, g5, g6⟩
      · refine Or.inl ⟨h3, hw (nI i, upd b6 i (nI (cf_w j A.testBit i))) ⟨st, Or.inr ⟨i, hi, by omega, rfl, hb, hc, fun u hu hui t1 t2 => ?_⟩⟩⟩
        by_cases c : u = i
        · rw [c]
          exact Nat.le_refl _
        · exact absurd ⟨t1, t2⟩ (h4 u hu (by omega))
      · refine Or.inr ⟨b, g1, by omega, g3, h1 b g1 g2 g4 g5, hwb b g1, fun z => hw (nI b, upd b6 i (nI (cf_w j A.testBit i))) ⟨st, Or.inr ⟨b, g1, by omega, rfl, g4, g5, fun u hu hui t1 t2 => ?_⟩⟩,
          fun z => hw (nI i, upd b6 i (nI (cf_w j A.testBit i))) ⟨st, Or.inr ⟨i, hi, by omega, rfl, hb, hc, fun u hu hui t1 t2 => ?_⟩⟩⟩
        · by_cases c : u = i
          · rw [c]
            exact z
          · exact g6 u hu (by omega) t1 t2
        · by_cases c : u = i
          · rw [c]
            exact Nat.le_refl _
          · have := g6 u hu (by omega) t1 t2
            omega
    · rw [hc] at z
      exact absurd z.2 (by decide)
/-! the walk of merge -/
theorem cf_merge {post : St1 → Prop} {j : Nat → Nat} {s t : Nat} {f : Int32} {a1 a2 a3 a4 a5 a6 a7 a8 : Nat → Int32} (haj : cf_ar a5 j) (hs : s < 6) (ht : t < 6) (hst : s ≠ t)
    (H : ∀ (b5 : Nat → Int32) (j' : Nat → Nat), cf_G j s t j' → cf_ar b5 j' → post (f, a1, a2, a3, a4, b5, a6, a7, a8)) : wpX_merge post (f, a1, a2, a3, a4, a5, a6, a7, a8) (nI s) (nI t) := by
  show ∃ n, wX_merge_2 post (nI s) (nI t) f n 0 a1 a2 a3 a4 a5 a6 a7 a8
  refine pk_loop (fun n i b5 => wX_merge_2 post (nI s) (nI t) f n (nI i) a1 a2 a3 a4 b5 a6 a7 a8) (fun i b5 => cf_ar b5 (cf_mg j s t i)) 6 0 a5 (by omega) haj ?_ ?_
  · intro n b5 hb
    exact pk_le 6 6 (fun _ => ⟨cf_in36 hs hs, nm_r (e' := upd b5 (s * 6 + s) 0) (by rw [cf_cl hs hs]) (H _ _ (cf_mg_G hs ht hst) (cf_ar_u hb rfl))⟩) (fun z => absurd z (by omega))
  · intro n i b5 hi hb hw
    refine pk_le 6 i (fun z => absurd z (by omega)) (fun _ => ⟨cf_in36 hs hi, cf_in36 ht hi, cf_in36 hs hi, nm_r (e' := upd b5 (s * 6 + i) (nI (cf_mg j s t i (s * 6 + i) + cf_mg j s t i (t * 6 + i)))) ?_ ⟨cf_in36 hs hi, cf_in36 hi hs,
      nm_r (e' := upd (upd b5 (s * 6 + i) (nI (cf_mg j s t i (s * 6 + i) + cf_mg j s t i (t * 6 + i)))) (i * 6 + s) (nI (cf_mg j s t i (s * 6 + i) + cf_mg j s t i (t * 6 + i)))) ?_ (nm_r (nI_1 i) (hw _ ?_))⟩⟩)
    · rw [cf_cl hs hi, cf_cl ht hi, hb _ (by omega), hb _ (by omega), nI_add]
    · rw [cf_cl hi hs, cf_cl hs hi, pk_us]
    · exact cf_ar_u (cf_ar_u hb rfl) rfl
/-! the walk of least -/
theorem cf_w51 {post : Int32 → St1 → Prop} {J : Int32 → Int32 → Int32 → Int32 → (Nat → Int32) → (Nat → Int32) → (Nat → Int32) → (Nat → Int32) → (Nat → Int32) → (Nat → Int32) → (Nat → Int32) → (Nat → Int32) → Prop}
    {j : Nat → Nat} {Th B ph best : Nat} {f : Int32} {a1 a2 a3 a4 a5 a6 a7 a8 : Nat → Int32} (haj : cf_ar a5 j) (hs : cf_sym j) (hj : ∀ i, i < 36 → j i ≤ B) (hB : B ≤ 960) (hTh : Th < 64) (hcn : cf_cnt Th.testBit + ph = 6) (hph : ph < 5) (hbest : best ≤ 1048576)
    (HJ : ∀ (s t d : Nat) (j' : Nat → Nat) (b5 b6 : Nat → Int32), s < 6 → t < 6 → s ≠ t → Th.testBit s = true → Th.testBit t = true → (∀ p : Nat → Bool, p t ≠ p s → d ≤ cf_cw j Th.testBit p) → d = cf_cw j Th.testBit (fun w => decide (w = t)) →
      cf_G j s t j' → cf_ar b5 j' → J (nI (if best ≤ d then best else d)) (nI (Th &&& (63 - 2 ^ t))) (nI (ph + 1)) f a1 a2 a3 a4 b5 b6 a7 a8) :
    ∃ n, wX_least_51 post J (nI best) (nI Th) (nI ph) n (-1) (-1) 0 (nI ph) f a1 a2 a3 a4 a5 a6 a7 a8 := by
  refine pk_loop (σ := Int32 × Int32 × Int32 × (Nat → Int32)) (fun n k s => wX_least_51 post J (nI best) (nI Th) (nI ph) n s.1 s.2.1 s.2.2.1 (nI k) f a1 a2 a3 a4 a5 s.2.2.2 a7 a8)
    (fun k s => ∃ A l : Nat, A < 64 ∧ s.2.2.1 = nI A ∧ (∀ v, v < 6 → A.testBit v = true → Th.testBit v = true) ∧ cf_cnt A.testBit + ph = k ∧ cf_J j Th.testBit A.testBit l ∧
      (k = ph ∨ (l < 6 ∧ A.testBit l = true ∧ s.1 = nI l ∧ ∃ d, d ≤ 6 * B ∧ s.2.2.2 l = nI d ∧ d = cf_cw j A.testBit (fun w => decide (w = l)) ∧
        (k = ph + 1 ∨ ∃ t, t < 6 ∧ A.testBit t = true ∧ t ≠ l ∧ s.2.1 = nI t ∧ ∀ p : Nat → Bool, p l ≠ p t → d ≤ cf_cw j A.testBit p)))) 6 ph (-1, -1, 0, a6) (by omega)
    ⟨0, 0, by omega, rfl, fun v _ h => ?_, ?_, cf_J_0 (fun w _ => Nat.zero_testBit w) 0, Or.inl rfl⟩ ?_ ?_
  · rw [Nat.zero_testBit] at h
    exact absurd h (by decide)
  · have : cf_cnt (Nat.testBit 0) = 0 := cf_S_0 (fun v _ => by
      show (if (0 : Nat).testBit v = true then 1 else 0) = 0
      rw [Nat.zero_testBit]
      rfl)
    omega
  · rintro n ⟨x4, x5, x6, b6⟩ ⟨A, l, h1, h2, h3, h4, h5, h6⟩
    dsimp only at h2 h6
    rcases h6 with h6 | ⟨g1, g2, g3, d, g4, g5, g6, g7⟩
    · omega
    rcases g7 with g7 | ⟨t, t1, t2, t3, t4, t5⟩
    · omega
    subst g3 t4
    have hAT : A = Th := cf_mask_ext h1 hTh (cf_cnt_eq h3 (by omega))
    subst hAT
    refine pk_le 6 6 (fun _ => ⟨pk_in l 6 g1, ?_⟩) (fun z => absurd z (by omega))
    have e1 : b6 (nI l).toNatClampNeg = nI d := by
      rw [cf_c1 (by omega)]
      exact g5
    have fin : wX_least_108 post J (nI A) (nI ph) (nI l) (nI t) (nI (if best ≤ d then best else d)) f a1 a2 a3 a4 a5 b6 a7 a8 := by
      refine cf_merge haj t1 g1 t3 (fun b5 j' hg hb5 => ?_)
      exact nm_r (cf_del A h1 l g1) (nm_r (nI_1 ph) (HJ t l d j' b5 b6 t1 g1 t3 t2 g2 t5 g6 hg hb5))
    refine pk_le best d (fun z => ?_) (fun z => ⟨pk_in l 6 g1, ?_⟩) rfl e1
    · rw [if_pos z] at fin
      exact fin
    · rw [if_neg (by omega)] at fin
      dsimp only
      rw [e1]
      exact fin
  · rintro n k ⟨x4, x5, x6, b6⟩ hk ⟨A, l, h1, h2, h3, h4, h5, h6⟩ hw
    dsimp only at h2 h6
    subst h2
    refine pk_le 6 k (fun z => absurd z (by omega)) (fun _ => ?_)
    refine cf_tight haj hj hB hTh h1 (cf_cnt_lt h3 (by omega)) (fun v c6 v1 v2 v3 v4 v5 => ?_)
    have hA1 : (A ||| 2 ^ v).testBit v = true := cf_or_t h1 v1
    have hAn : ∀ w, w < 6 → w ≠ v → (A ||| 2 ^ v).testBit w = A.testBit w := fun w hw hne => cf_or_n h1 v1 hw hne
    refine nm_r (cf_or A h1 v v1) (nm_r (nI_1 k) (hw (nI v, x4, nI (A ||| 2 ^ v), c6) ⟨A ||| 2 ^ v, v, cf_or_lt A h1 v v1, rfl, fun w hw hf => ?_, ?_, cf_J_step hs v1 v2 v3 hA1 hAn v4 h5,
      Or.inr ⟨v1, hA1, rfl, cf_w j A.testBit v, cf_w_b v1 hj, v5, (cf_cw_one hs v1 v3 hA1 hAn).symm, ?_⟩⟩))
    · by_cases c : w = v
      · rw [c]
        exact v2
      · rw [hAn w hw c] at hf
        exact h3 w hw hf
    · have := cf_cnt_add (p := A.testBit) (q := (A ||| 2 ^ v).testBit) v1 v3 hA1 hAn
      omega
    · rcases h6 with h6 | ⟨g1, g2, g3, d, g4, g5, g6, g7⟩
      · exact Or.inl (by omega)
      · have hlv : l ≠ v := fun z => by
          rw [z, v3] at g2
          exact absurd g2 (by decide)
        exact Or.inr ⟨l, g1, by rw [hAn l g1 hlv]; exact g2, hlv, g3, cf_J_sel hs v1 v2 v3 hA1 hAn h5⟩
theorem cf_least {post : Int32 → St1 → Prop} {C : Nat → Nat} {f : Int32} {a1 a2 a3 a4 a5 a6 a7 a8 : Nat → Int32} (hcap : cf_ar a1 C) (hC : ∀ i, i < 36 → C i ≤ 30) (hs : cf_sym C)
    (H : ∀ (m : Nat) (b5 b6 : Nat → Int32), cf_M C m → post (nI m) (f, a1, a2, a3, a4, b5, b6, a7, a8)) : wpX_least post (f, a1, a2, a3, a4, a5, a6, a7, a8) := by
  show ∃ n, wX_least_2 post f n 0 a1 a2 a3 a4 a5 a6 a7 a8
  refine pk_loop (fun n i b5 => wX_least_2 post f n (nI i) a1 a2 a3 a4 b5 a6 a7 a8) (fun i b5 => ∀ j, j < i → b5 j = nI (C j)) 36 0 a5 (by omega) (fun j hj => absurd hj (by omega)) ?_ ?_
  · intro n b5 hb
    refine pk_le 36 36 (fun _ => ?_) (fun z => absurd z (by omega))
    refine pk_loop (σ := Int32 × Int32 × (Nat → Int32) × (Nat → Int32)) (fun n i s => wX_least_34 post n s.1 s.2.1 (nI i) f a1 a2 a3 a4 s.2.2.1 s.2.2.2 a7 a8)
      (fun ph s => ∃ (best Th : Nat) (j : Nat → Nat), best ≤ 1048576 ∧ s.1 = nI best ∧ s.2.1 = nI Th ∧ Th < 64 ∧ cf_cnt Th.testBit + ph = 6 ∧ cf_ar s.2.2.1 j ∧ cf_sym j ∧ (∀ i, i < 36 → j i ≤ 30 * 2 ^ ph) ∧ cf_ph C j Th.testBit best) 5 0 (1048576, 63, b5, a6) (by omega)
      ⟨1048576, 63, C, by omega, rfl, rfl, by omega, by decide, hb, hs, hC, cf_ph_0 hC (fun _ _ => rfl) (by decide) (by omega)⟩ ?_ ?_
    · rintro n ⟨x1, x2, c5, c6⟩ ⟨best, Th, j, h1, h2, h3, h4, h5, h6, h7, h8, h9⟩
      dsimp only at h2
      subst h2
      exact pk_le 5 5 (fun _ => H best c5 c6 (cf_ph_end h9 (by omega))) (fun z => absurd z (by omega))
    · rintro n ph ⟨x1, x2, c5, c6⟩ hph ⟨best, Th, j, h1, h2, h3, h4, h5, h6, h7, h8, h9⟩ hw
      dsimp only at h2 h3 h6
      subst h2 h3
      have hp : 2 ^ ph ≤ 2 ^ 5 := Nat.pow_le_pow_right (by decide) (by omega)
      refine pk_le 5 ph (fun z => absurd z (by omega)) (fun _ => ?_)
      refine cf_w51 h6 h7 h8 (by omega) h4 h5 hph h1 (fun s t d j' d5 d6 s1 t1 hst s2 t2 hd he hg hd5 => ?_)
      have q0 : (Th &&& (63 - 2 ^ t)).testBit t = false := by
        rw [cf_del_bit Th h4 t t1 t t1]
        simp
      have qn : ∀ w, w < 6 → w ≠ t → (Th &&& (63 - 2 ^ t)).testBit w = Th.testBit w := fun w hw hne => by
        rw [cf_del_bit Th h4 t t1 w hw, decide_eq_true hne, Bool.and_true]
      refine hw (nI (if best ≤ d then best else d), nI (Th &&& (63 - 2 ^ t)), d5, d6) ⟨if best ≤ d then best else d, Th &&& (63 - 2 ^ t), j', ?_, rfl, rfl, cf_del_lt Th h4 t t1, ?_, hd5, cf_G_sym h7 hg, fun i hi => ?_, cf_ph_step h9 h7 s1 t1 hst s2 t2 q0 qn hg hd he⟩
      · by_cases c : best ≤ d
        · rw [if_pos c]
          exact h1
        · rw [if_neg c]
          omega
      · have := cf_cnt_add (p := (Th &&& (63 - 2 ^ t)).testBit) (q := Th.testBit) t1 q0 t2 (fun w hw hne => (qn w hw hne).symm)
        omega
      · have := cf_G_b s1 t1 h8 hg i hi
        rw [Nat.pow_succ]
        omega
  · intro n i b5 hi hb hw
    refine pk_le 36 i (fun z => absurd z (by omega)) (fun _ => ⟨pk_in i 36 hi, pk_in i 36 hi, nm_r (e' := upd b5 i (nI (C i))) ?_ (nm_r (nI_1 i) (hw _ (fun j hj => ?_)))⟩)
    · rw [cf_c1 (by omega), hcap i hi]
    · by_cases c : j = i
      · rw [c, pk_us]
      · rw [pk_un c]
        exact hb j (by omega)
end
section
/-! the small methods -/
theorem cf_place {post : Int32 → Prop} {a : Nat} (ha : a < 6) (h : post 1) : wpX_isPlace post () (nI a) := by
  unfold wpX_isPlace
  exact br_f (nI_pos (by omega)) (br_f (nI_ge (b := 6) ha (by decide)) h)
theorem cf_pair {post : Int32 → Prop} {a b : Nat} (ha : a < 6) (hb : b < 6) (hn : a ≠ b) (h : post 1) : wpX_isPair post () (nI a) (nI b) := by
  unfold wpX_isPair
  refine cf_place ha (br_f (by decide) (cf_place hb (br_f (by decide) (br_f (fun z => hn ?_) h))))
  exact (nI_eq (by omega) (by omega)).mp z
theorem cf_pair0 {post : Int32 → Prop} {a : Nat} (ha : a < 6) (h : post 0) : wpX_isPair post () (nI a) (nI a) := by
  unfold wpX_isPair
  exact cf_place ha (br_f (by decide) (cf_place ha (br_f (by decide) (br_t rfl h))))
theorem cf_dj {a b : Nat} (ha : a < 6) (hb : b < 6) (hn : a ≠ b) : ∀ v, v < 6 → (2 ^ a).testBit v = true → (2 ^ b).testBit v = false := by
  intro v hv h
  rw [cf_pw_bit a ha v hv] at h
  rw [cf_pw_bit b hb v hv]
  have := of_decide_eq_true h
  exact decide_eq_false (by omega)
/-- capacities as CutFinder keeps them -/
def cf_cap (C : Nat → Nat) : Prop := (∀ i, i < 36 → C i ≤ 30) ∧ cf_sym C
theorem cf_put {post : St1 → Prop} {C : Nat → Nat} {u : St1} {a b c : Nat} (hu : cf_ar u.2.1 C) (ha : a < 6) (hb : b < 6)
    (H : ∀ u' : St1, cf_ar u'.2.1 (cf_u (cf_u C (a * 6 + b) c) (b * 6 + a) c) → post u') : wpX_put post u (nI a) (nI b) (nI c) := by
  obtain ⟨f, a1, a2, a3, a4, a5, a6, a7, a8⟩ := u
  unfold wpX_put
  exact ⟨cf_in36 ha hb, nm_r (e' := upd a1 (a * 6 + b) (nI c)) (by rw [cf_cl ha hb]) ⟨cf_in36 hb ha, nm_r (e' := upd (upd a1 (a * 6 + b) (nI c)) (b * 6 + a) (nI c)) (by rw [cf_cl hb ha]) (H _ (cf_ar_u (cf_ar_u hu rfl) rfl))⟩⟩
theorem cf_cap_u {C : Nat → Nat} {a b c : Nat} (h : cf_cap C) (ha : a < 6) (hb : b < 6) (hc : c ≤ 30) : cf_cap (cf_u (cf_u C (a * 6 + b) c) (b * 6 + a) c) := by
  obtain ⟨h1, h2⟩ := h
  refine ⟨fun i hi => ?_, fun x y hx hy => ?_⟩
  · by_cases e : i = b * 6 + a
    · rw [e, cf_us]
      exact hc
    · rw [cf_un e]
      by_cases e' : i = a * 6 + b
      · rw [e', cf_us]
        exact hc
      · rw [cf_un e']
        exact h1 i hi
  · have key : ∀ x y, x < 6 → y < 6 → cf_u (cf_u C (a * 6 + b) c) (b * 6 + a) c (x * 6 + y) = if (x = b ∧ y = a) ∨ (x = a ∧ y = b) then c else C (x * 6 + y) := by
      intro x y hx hy
      by_cases e : x = b ∧ y = a
      · rw [if_pos (Or.inl e), e.1, e.2, cf_us]
      · rw [cf_un (fun z => e ((cf_ix hy ha).mp z))]
        by_cases e' : x = a ∧ y = b
        · rw [if_pos (Or.inr e'), e'.1, e'.2, cf_us]
        · rw [cf_un (fun z => e' ((cf_ix hy hb).mp z)), if_neg (fun z => z.elim e e')]
    rw [key x y hx hy, key y x hy hx]
    by_cases e : (x = b ∧ y = a) ∨ (x = a ∧ y = b)
    · rw [if_pos e, if_pos (by omega)]
    · rw [if_neg e, if_neg (by omega)]
      exact h2 x y hx hy
theorem cf_set {post : Int32 → St1 → Prop} {C : Nat → Nat} {u : St1} {a b c : Nat} (hu : cf_ar u.2.1 C) (hC : cf_cap C) (ha : a < 6) (hb : b < 6) (hn : a ≠ b) (hc : c ≤ 30)
    (H : ∀ (C' : Nat → Nat) (u' : St1), cf_cap C' → cf_ar u'.2.1 C' → post 1 u') : wpX_set post u (nI a) (nI b) (nI c) := by
  obtain ⟨f, a1, a2, a3, a4, a5, a6, a7, a8⟩ := u
  unfold wpX_set
  dsimp only
  refine cf_pair ha hb hn (br_f (by decide) (br_f (nI_pos (by omega)) (br_t (nI_le (b := 30) hc (by decide)) (cf_put hu ha hb (fun u' hu' => ?_)))))
  exact H _ _ (cf_cap_u hC ha hb hc) hu'
theorem cf_capacity {post : Int32 → Prop} {C : Nat → Nat} {u : St1} {a b : Nat} (hu : cf_ar u.2.1 C) (ha : a < 6) (hb : b < 6) (hn : a ≠ b) (H : post (nI (C (a * 6 + b)))) : wpX_capacity post u (nI a) (nI b) := by
  obtain ⟨f, a1, a2, a3, a4, a5, a6, a7, a8⟩ := u
  have hu' : cf_ar a1 C := hu
  unfold wpX_capacity
  dsimp only
  refine cf_pair ha hb hn (br_f (by decide) ⟨cf_in36 ha hb, ?_⟩)
  rw [cf_cl ha hb, hu' _ (by omega)]
  exact H
theorem cf_costW {post : Int32 → Prop} {C : Nat → Nat} {u : St1} {X : Nat} (hu : cf_ar u.2.1 C) (h1 : 1 ≤ X) (h2 : X < 63) (H : post (nI (cf_cost C X.testBit))) : wpX_cost post u (nI X) := by
  obtain ⟨f, a1, a2, a3, a4, a5, a6, a7, a8⟩ := u
  have hu' : cf_ar a1 C := hu
  have hX : X < 64 := by omega
  unfold wpX_cost
  dsimp only
  refine br_f (nI_nlt (b := 1) h1 (by omega)) (br_t (nI_lt (b := 63) h2 (by decide)) ?_)
  refine pk_loop (σ := Unit) (fun n i _ => wX_cost_17 post (nI X) f a1 a2 a3 a4 a5 a6 a7 a8 n (nI (cf_S (fun a => cf_S (fun b => if X.testBit a = true ∧ X.testBit b = false then C (a * 6 + b) else 0) 6) i)) (nI i)) (fun _ _ => True) 6 0 () (by omega) trivial ?_ ?_
  · intro n _ _
    exact pk_le 6 6 (fun _ => H) (fun z => absurd z (by omega))
  · intro n a _ ha _ hw
    refine pk_le 6 a (fun z => absurd z (by omega)) (fun _ => ?_)
    refine pk_loop (σ := Unit) (fun m i _ => wX_cost_26 post (wX_cost_17 post (nI X) f a1 a2 a3 a4 a5 a6 a7 a8 n) (nI X) (nI a) f a1 a2 a3 a4 a5 a6 a7 a8 m (nI (cf_S (fun a => cf_S (fun b => if X.testBit a = true ∧ X.testBit b = false then C (a * 6 + b) else 0) 6) a + cf_S (fun b => if X.testBit a = true ∧ X.testBit b = false then C (a * 6 + b) else 0) i)) (nI i)) (fun _ _ => True) 6 0 () (by omega) trivial ?_ ?_
    · intro m _ _
      exact pk_le 6 6 (fun _ => nm_r (nI_1 a) (hw () trivial)) (fun z => absurd z (by omega))
    · intro m b _ hb _ hv
      have zero : ¬ (X.testBit a = true ∧ X.testBit b = false) → ∀ s : Nat, nI (s + cf_S (fun b => if X.testBit a = true ∧ X.testBit b = false then C (a * 6 + b) else 0) b) + 0 = nI (s + cf_S (fun b => if X.testBit a = true ∧ X.testBit b = false then C (a * 6 + b) else 0) (b + 1)) := by
        intro c s
        show nI (s + cf_S (fun b => if X.testBit a = true ∧ X.testBit b = false then C (a * 6 + b) else 0) b) + nI 0 = nI (s + (cf_S (fun b => if X.testBit a = true ∧ X.testBit b = false then C (a * 6 + b) else 0) b + (if X.testBit a = true ∧ X.testBit b = false then C (a * 6 + b) else 0)))
        rw [nI_add, if_neg c]
        rfl
      refine pk_le 6 b (fun z => absurd z (by omega)) (fun _ => cf_inb hX ha (fun ca => nm_r (zero (fun z => ?_) _) (nm_r (nI_1 b) (hv () trivial))) (fun ca => cf_inb hX hb (fun cb => ⟨cf_in36 ha hb, nm_r ?_ (nm_r (nI_1 b) (hv () trivial))⟩) (fun cb => nm_r (zero (fun z => ?_) _) (nm_r (nI_1 b) (hv () trivial)))))
      · rw [ca] at z
        exact absurd z.1 (by decide)
      · show _ = nI (_ + (cf_S (fun b => if X.testBit a = true ∧ X.testBit b = false then C (a * 6 + b) else 0) b + (if X.testBit a = true ∧ X.testBit b = false then C (a * 6 + b) else 0)))
        rw [cf_cl ha hb, hu' _ (by omega), nI_add, if_pos ⟨ca, cb⟩, Nat.add_assoc]
      · rw [cb] at z
        exact absurd z.2 (by decide)
/-! between, core, reach -/
theorem cf_between {post : Int32 → St1 → Prop} {C : Nat → Nat} {u : St1} {a b : Nat} (hu : cf_ar u.2.1 C) (hC : cf_cap C) (ha : a < 6) (hb : b < 6) (hn : a ≠ b)
    (H : ∀ (s X : Nat) (u' : St1), cf_ar u'.2.1 C → cf_F C (2 ^ a) (2 ^ b) s X → post (nI s) u') : wpX_between post u (nI a) (nI b) := by
  obtain ⟨f, a1, a2, a3, a4, a5, a6, a7, a8⟩ := u
  unfold wpX_between
  dsimp only
  refine cf_pair ha hb hn (br_f (by decide) ?_)
  rw [cf_one a ha, cf_one b hb]
  exact cf_flow hu hC.1 (cf_pw_lt a ha) (cf_pw_lt b hb) (cf_dj ha hb hn) (fun s X b2 b3 b4 hF => H s X _ hu hF)
theorem cf_between0 {post : Int32 → St1 → Prop} {C : Nat → Nat} {u : St1} {a : Nat} (ha : a < 6) (H : post (-1) u) : wpX_between post u (nI a) (nI a) := by
  obtain ⟨f, a1, a2, a3, a4, a5, a6, a7, a8⟩ := u
  unfold wpX_between
  dsimp only
  exact cf_pair0 ha (br_t rfl H)
theorem cf_core {post : Int32 → St1 → Prop} {C : Nat → Nat} {u : St1} {a b : Nat} (hu : cf_ar u.2.1 C) (hC : cf_cap C) (ha : a < 6) (hb : b < 6) (hn : a ≠ b)
    (H : ∀ (s X : Nat) (u' : St1), cf_ar u'.2.1 C → cf_F C (2 ^ a) (2 ^ b) s X → post (nI X) u') : wpX_core post u (nI a) (nI b) := by
  obtain ⟨f, a1, a2, a3, a4, a5, a6, a7, a8⟩ := u
  unfold wpX_core
  dsimp only
  refine cf_pair ha hb hn (br_f (by decide) ?_)
  rw [cf_one a ha, cf_one b hb]
  exact cf_flow hu hC.1 (cf_pw_lt a ha) (cf_pw_lt b hb) (cf_dj ha hb hn) (fun s X b2 b3 b4 hF => H s X _ hu hF)
theorem cf_reach {post : Int32 → St1 → Prop} {C : Nat → Nat} {u : St1} {a b : Nat} (hu : cf_ar u.2.1 C) (hC : cf_cap C) (ha : a < 6) (hb : b < 6) (hn : a ≠ b)
    (H : ∀ (s X : Nat) (u' : St1), cf_ar u'.2.1 C → cf_F C (2 ^ b) (2 ^ a) s X → post (nI (63 - X)) u') : wpX_reach post u (nI a) (nI b) := by
  obtain ⟨f, a1, a2, a3, a4, a5, a6, a7, a8⟩ := u
  unfold wpX_reach
  dsimp only
  refine cf_pair ha hb hn (br_f (by decide) (cf_core hu hC hb ha (fun z => hn z.symm) (fun s X u' hu' hF => ?_)))
  obtain ⟨f', c1, c2, c3, c4, c5, c6, c7, c8⟩ := u'
  dsimp only
  rw [cf_not X hF.1]
  exact H s X _ hu' hF
theorem cf_leastU {post : Int32 → St1 → Prop} {C : Nat → Nat} {u : St1} (hu : cf_ar u.2.1 C) (hC : cf_cap C) (H : ∀ (m : Nat) (u' : St1), cf_ar u'.2.1 C → cf_M C m → post (nI m) u') : wpX_least post u := by
  obtain ⟨f, a1, a2, a3, a4, a5, a6, a7, a8⟩ := u
  exact cf_least hu hC.1 hC.2 (fun m b5 b6 hm => H m _ hu hm)
/-! loss -/
theorem cf_M_loss {C : Nat → Nat} {a b m m' : Nat} (hC : cf_cap C) (ha : a < 6) (hb : b < 6) (hn : a ≠ b) (h : cf_M C m) (h' : cf_M (cf_u (cf_u C (a * 6 + b) 0) (b * 6 + a) 0) m') : m' ≤ m ∧ m ≤ m' + C (a * 6 + b) := by
  have key : ∀ p : Nat → Bool, cf_cost (cf_u (cf_u C (a * 6 + b) 0) (b * 6 + a) 0) p ≤ cf_cost C p ∧ cf_cost C p ≤ cf_cost (cf_u (cf_u C (a * 6 + b) 0) (b * 6 + a) 0) p + C (a * 6 + b) := by
    intro p
    have e1 := cf_cost_upd C p ha hb 0
    have e2 := cf_cost_upd (cf_u C (a * 6 + b) 0) p hb ha 0
    rw [cf_un (by omega)] at e2
    have e3 := hC.2 a b ha hb
    cases hpa : p a <;> cases hpb : p b <;> rw [hpa, hpb] at e1 e2 <;> simp at e1 e2 <;> omega
  obtain ⟨h1, p, h2, h3⟩ := h
  obtain ⟨g1, q, g2, g3⟩ := h'
  have k1 := key p
  have k2 := key q
  have k3 := h1 q g2
  have k4 := g1 p h2
  omega
theorem cf_loss {post : Int32 → St1 → Prop} {C : Nat → Nat} {u : St1} {a b : Nat} (hu : cf_ar u.2.1 C) (hC : cf_cap C) (ha : a < 6) (hb : b < 6) (hn : a ≠ b)
    (H : ∀ (k : Nat) (u' : St1), cf_ar u'.2.1 C → k ≤ C (a * 6 + b) → post (nI k) u') : wpX_loss post u (nI a) (nI b) := by
  obtain ⟨f, a1, a2, a3, a4, a5, a6, a7, a8⟩ := u
  have hu' : cf_ar a1 C := hu
  unfold wpX_loss
  dsimp only
  refine cf_pair ha hb hn (br_f (by decide) ⟨cf_in36 ha hb, nm_r (e' := nI (C (a * 6 + b))) (by rw [cf_cl ha hb, hu' _ (by omega)]) (cf_leastU hu hC (fun m u1 k1 M1 => ?_))⟩)
  obtain ⟨f1, b1, b2, b3, b4, b5, b6, b7, b8⟩ := u1
  refine cf_put (c := 0) k1 ha hb (fun u2 k2 => ?_)
  obtain ⟨f2, c1, c2, c3, c4, c5, c6, c7, c8⟩ := u2
  refine cf_leastU k2 (cf_cap_u hC ha hb (by omega)) (fun m' u3 k3 M2 => ?_)
  obtain ⟨f3, d1, d2, d3, d4, d5, d6, d7, d8⟩ := u3
  refine cf_put k3 ha hb (fun u4 k4 => ?_)
  obtain ⟨f4, e1, e2, e3, e4, e5, e6, e7, e8⟩ := u4
  have hl := cf_M_loss hC ha hb hn M1 M2
  dsimp only
  rw [pk_sub hl.1]
  refine H (m - m') _ (fun i hi => ?_) (by omega)
  rw [k4 i hi]
  by_cases e : i = b * 6 + a
  · rw [e, cf_us, hC.2 a b ha hb]
  · rw [cf_un e]
    by_cases e' : i = a * 6 + b
    · rw [e', cf_us]
    · rw [cf_un e', cf_un e, cf_un e']
/-! the law's between -/
theorem cf_sub0 : ∀ x, x < 64 → ∀ z, z < 64 → (∀ v, v < 6 → x.testBit v = true → z.testBit v = true) → nI x &&& (nI z ^^^ (-1)) = 0 := by decide +kernel
theorem cf_side {X a b : Nat} (hX : X < 64) (ha : a < 6) (hb : b < 6) (h1 : X.testBit a = true) (h2 : X.testBit b = false) : 1 ≤ X ∧ X < 63 := by
  have e0 : X ≠ 0 := fun z => by
    rw [z, Nat.zero_testBit] at h1
    exact absurd h1 (by decide)
  have e1 : X ≠ 63 := fun z => by
    rw [z, (by decide : ∀ v, v < 6 → (63 : Nat).testBit v = true) b hb] at h2
    exact absurd h2 (by decide)
  omega
theorem cf_F_two {C : Nat → Nat} {a b n X m Y : Nat} (hC : cf_cap C) (ha : a < 6) (hb : b < 6) (hF : cf_F C (2 ^ a) (2 ^ b) n X) (hG : cf_F C (2 ^ b) (2 ^ a) m Y) :
    n = m ∧ X.testBit a = true ∧ X.testBit b = false ∧ Y.testBit b = true ∧ Y.testBit a = false ∧ (∀ v, v < 6 → X.testBit v = true → (63 - Y).testBit v = true) ∧ cf_cost C (63 - Y).testBit = n := by
  obtain ⟨f1, f2, f3, f4, f5⟩ := hF
  obtain ⟨g1, g2, g3, g4, g5⟩ := hG
  have pa : (2 ^ a).testBit a = true := by rw [cf_pw_bit a ha a ha]; exact decide_eq_true rfl
  have pb : (2 ^ b).testBit b = true := by rw [cf_pw_bit b hb b hb]; exact decide_eq_true rfl
  have qa : ∀ v, v < 6 → (2 ^ a).testBit v = true → v = a := fun v hv h => by rw [cf_pw_bit a ha v hv] at h; exact of_decide_eq_true h
  have qb : ∀ v, v < 6 → (2 ^ b).testBit v = true → v = b := fun v hv h => by rw [cf_pw_bit b hb v hv] at h; exact of_decide_eq_true h
  have x1 := f2 a ha pa
  have x2 := f3 b hb pb
  have y1 := g2 b hb pb
  have y2 := g3 a ha pa
  have A := f5 (fun v => !Y.testBit v) (fun v hv h => by show (!Y.testBit v) = true; rw [qa v hv h, y2]; rfl) (fun v hv h => by show (!Y.testBit v) = false; rw [qb v hv h, y1]; rfl)
  have B := g5 (fun v => !X.testBit v) (fun v hv h => by show (!X.testBit v) = true; rw [qb v hv h, x2]; rfl) (fun v hv h => by show (!X.testBit v) = false; rw [qa v hv h, x1]; rfl)
  rw [cf_cost_not hC.2, g4] at A
  rw [cf_cost_not hC.2, f4] at B
  have e : n = m := by omega
  refine ⟨e, x1, x2, y1, y2, fun v hv h => ?_, ?_⟩
  · rw [cf_not_bit Y g1 v hv]
    exact A.2 (by omega) v hv h
  · rw [cf_cost_congr (C' := C) (p' := fun v => !Y.testBit v) (fun _ _ => rfl) (fun v hv => cf_not_bit Y g1 v hv), cf_cost_not hC.2, g4, e]
theorem cf_Lbetween {post : Int32 → St1 → Prop} {C : Nat → Nat} {u : St1} {a b : Nat} (hu : cf_ar u.2.1 C) (hC : cf_cap C) (ha : a < 6) (hb : b < 6) (hn : a ≠ b)
    (H : ∀ u' : St1, cf_ar u'.2.1 C → post 1 u') : wpL_between post u (nI a) (nI b) := by
  obtain ⟨f, a1, a2, a3, a4, a5, a6, a7, a8⟩ := u
  have hn' : b ≠ a := fun z => hn z.symm
  unfold wpL_between
  dsimp only
  refine cf_between hu hC ha hb hn (fun n X u1 k1 F1 => ?_)
  obtain ⟨f1, b1, b2, b3, b4, b5, b6, b7, b8⟩ := u1
  refine cf_core k1 hC ha hb hn (fun n2 X2 u2 k2 F2 => ?_)
  obtain ⟨f2, c1, c2, c3, c4, c5, c6, c7, c8⟩ := u2
  refine cf_reach k2 hC ha hb hn (fun m Y u3 k3 F3 => ?_)
  obtain ⟨f3, d1, d2, d3, d4, d5, d6, d7, d8⟩ := u3
  refine cf_core k3 hC hb ha hn' (fun m4 Y4 u4 k4 F4 => ?_)
  obtain ⟨f4, e1, e2, e3, e4, e5, e6, e7, e8⟩ := u4
  refine cf_loss k4 hC ha hb hn (fun k u5 k5 hk => ?_)
  obtain ⟨f5, g1, g2, g3, g4, g5, g6, g7, g8⟩ := u5
  refine cf_between k5 hC hb ha hn' (fun m6 Y6 u6 k6 F6 => ?_)
  obtain ⟨f6, h1, h2, h3, h4, h5, h6, h7, h8⟩ := u6
  obtain ⟨rfl, rfl⟩ := cf_F_uni F1 F2
  obtain ⟨rfl, rfl⟩ := cf_F_uni F3 F4
  obtain ⟨rfl, rfl⟩ := cf_F_uni F3 F6
  obtain ⟨t1, t2, t3, t4, t5, t6, t7⟩ := cf_F_two hC ha hb F1 F3
  subst t1
  have hX := F1.1
  have hY := F3.1
  have hZ : 63 - Y < 64 := by omega
  have z1 : (63 - Y).testBit a = true := t6 a ha t2
  have z2 : (63 - Y).testBit b = false := by
    rw [cf_not_bit Y hY b hb, t4]
    rfl
  have s1 := cf_side hX ha hb t2 t3
  have s2 := cf_side hZ ha hb z1 z2
  have hk30 := hC.1 (a * 6 + b) (by omega)
  refine br_t rfl (br_t (cf_sub0 X hX (63 - Y) hZ t6) (cf_costW k6 s1.1 s1.2 (br_t (by rw [F1.2.2.2.1]) (cf_costW k6 s2.1 s2.2 (br_t (by rw [t7]) (br_t ((cf_bit1 X hX a ha).mpr t2) (br_t ((cf_bit0 (63 - Y) hZ b hb).mpr z2) (br_t (cf_not Y hY).symm (br_f (nI_pos (by omega)) ?_)))))))))
  exact cf_capacity k6 ha hb hn (br_f (nI_nlt hk (by omega)) (H _ k6))
end
section
/-! leastSide -/
theorem cf_F_b {C : Nat → Nat} {S T s X : Nat} (hC : cf_cap C) (h : cf_F C S T s X) : s ≤ 1080 := by
  have := cf_cost_b hC.1 X.testBit
  rw [h.2.2.2.1] at this
  exact this
theorem cf_M_b {C : Nat → Nat} {m : Nat} (hC : cf_cap C) (h : cf_M C m) : m ≤ 1080 := by
  obtain ⟨_, p, _, h3⟩ := h
  have := cf_cost_b hC.1 p
  omega
theorem cf_leastSide {post : Int32 → St1 → Prop} {C : Nat → Nat} {u : St1} (hu : cf_ar u.2.1 C) (hC : cf_cap C)
    (H : ∀ (m X : Nat) (u' : St1), cf_ar u'.2.1 C → cf_M C m → 1 ≤ X → X < 63 → cf_cost C X.testBit = m → post (nI X) u') : wpX_leastSide post u := by
  obtain ⟨f, a1, a2, a3, a4, a5, a6, a7, a8⟩ := u
  unfold wpX_leastSide
  dsimp only
  refine cf_leastU hu hC (fun g u1 k1 M => ?_)
  obtain ⟨f1, b1, b2, b3, b4, b5, b6, b7, b8⟩ := u1
  have hg := cf_M_b hC M
  refine ⟨5 + 1, pk_loopD (σ := Int32 × Int32 × St1) (fun n i s => wX_leastSide_12 post (nI g) n s.1 s.2.1 (nI i) s.2.2.1 s.2.2.2.1 s.2.2.2.2.1 s.2.2.2.2.2.1 s.2.2.2.2.2.2.1 s.2.2.2.2.2.2.2.1 s.2.2.2.2.2.2.2.2.1 s.2.2.2.2.2.2.2.2.2.1 s.2.2.2.2.2.2.2.2.2.2)
    (fun a s => a < 6 ∧ ∃ I O : Nat, I < 64 ∧ O < 64 ∧ s.1 = nI I ∧ s.2.1 = nI O ∧ cf_ar s.2.2.2.1 C ∧ I.testBit 0 = true ∧ (∀ v, v < 6 → I.testBit v = true → O.testBit v = false) ∧ (∀ v, v < 6 → a < v → I.testBit v = true ∨ O.testBit v = true) ∧
      (∀ v, v < 6 → 0 < v → v ≤ a → I.testBit v = false ∧ O.testBit v = false) ∧ ∃ p : Nat → Bool, cf_nv p ∧ cf_cost C p = g ∧ (∀ v, v < 6 → I.testBit v = true → p v = true) ∧ (∀ v, v < 6 → O.testBit v = true → p v = false)) ?_ ?_ 5 (1, 0, f1, b1, b2, b3, b4, b5, b6, b7, b8) ?_⟩
  · rintro n ⟨x2, x3, f, c1, c2, c3, c4, c5, c6, c7, c8⟩ ⟨_, I, O, h1, h2, h3, h4, h5, h6, h7, h8, h9, p, p1, p2, p3, p4⟩
    dsimp only at h3 h4 h5
    subst h3 h4
    refine pk_le 0 0 (fun _ => ?_) (fun z => absurd z (by omega))
    have e : ∀ v, v < 6 → I.testBit v = p v := by
      intro v hv
      cases c : I.testBit v with
      | true => exact (p3 v hv c).symm
      | false =>
        have hv0 : v ≠ 0 := fun z => by
          rw [z, h6] at c
          exact absurd c (by decide)
        rcases h8 v hv (by omega) with d | d
        · rw [c] at d
          exact absurd d (by decide)
        · exact (p4 v hv d).symm
    obtain ⟨_, b, b1, b2⟩ := p1
    have hs := cf_side h1 (by omega) b1 h6 (by rw [e b b1]; exact b2)
    exact H g I (f, c1, c2, c3, c4, c5, c6, c7, c8) h5 M hs.1 hs.2 (by rw [cf_cost_congr (C' := C) (p' := p) (fun _ _ => rfl) e]; exact p2)
  · rintro n a ⟨x2, x3, f, c1, c2, c3, c4, c5, c6, c7, c8⟩ ⟨ha, I, O, h1, h2, h3, h4, h5, h6, h7, h8, h9, p, p1, p2, p3, p4⟩ hw
    dsimp only at h3 h4 h5
    subst h3 h4
    have hI : I.testBit (a + 1) = false := (h9 (a + 1) ha (by omega) (by omega)).1
    have hO : O.testBit (a + 1) = false := (h9 (a + 1) ha (by omega) (by omega)).2
    have hOt : (O ||| 2 ^ (a + 1)).testBit (a + 1) = true := cf_or_t h2 ha
    have hOn : ∀ w, w < 6 → w ≠ a + 1 → (O ||| 2 ^ (a + 1)).testBit w = O.testBit w := fun w hw hne => cf_or_n h2 ha hw hne
    have hIt : (I ||| 2 ^ (a + 1)).testBit (a + 1) = true := cf_or_t h1 ha
    have hIn : ∀ w, w < 6 → w ≠ a + 1 → (I ||| 2 ^ (a + 1)).testBit w = I.testBit w := fun w hw hne => cf_or_n h1 ha hw hne
    have ne : ∀ v, I.testBit v = true → v ≠ a + 1 := fun v h z => by
      rw [z, hI] at h
      exact absurd h (by decide)
    have neO : ∀ v, O.testBit v = true → v ≠ a + 1 := fun v h z => by
      rw [z, hO] at h
      exact absurd h (by decide)
    refine pk_le (a + 1) 0 (fun z => absurd z (by omega)) (fun _ => ?_)
    dsimp only
    rw [cf_or O h2 (a + 1) ha]
    refine cf_flow h5 hC.1 h1 (cf_or_lt O h2 (a + 1) ha) (fun v hv h => by rw [hOn v hv (ne v h)]; exact h7 v hv h) (fun s X d2 d3 d4 hF => ?_)
    have hs := cf_F_b hC hF
    have x0 : X.testBit 0 = true := hF.2.1 0 (by omega) h6
    have xa : X.testBit (a + 1) = false := hF.2.2.1 (a + 1) ha hOt
    have xnv : cf_nv X.testBit := ⟨⟨0, by omega, x0⟩, a + 1, ha, xa⟩
    refine pk_eq s g (fun e => nm_e (nm_r (pk_m1 a) (hw (nI I, nI (O ||| 2 ^ (a + 1)), nI X, c1, d2, d3, d4, c5, c6, c7, c8) ⟨by omega, I, O ||| 2 ^ (a + 1), h1, cf_or_lt O h2 (a + 1) ha, rfl, rfl, h5, h6, fun v hv h => ?_, fun v hv h => ?_, fun v hv h0 h => ?_,
      X.testBit, xnv, hF.2.2.2.1.trans e, hF.2.1, hF.2.2.1⟩)))
      (fun e => nm_r (cf_or I h1 (a + 1) ha) (nm_r (pk_m1 a) (hw (nI (I ||| 2 ^ (a + 1)), nI O, nI X, c1, d2, d3, d4, c5, c6, c7, c8) ⟨by omega, I ||| 2 ^ (a + 1), O, cf_or_lt I h1 (a + 1) ha, h2, rfl, rfl, h5, ?_, fun v hv h => ?_, fun v hv h => ?_, fun v hv h0 h => ?_,
      p, p1, p2, fun v hv h => ?_, p4⟩)))
    · rw [hOn v hv (ne v h)]
      exact h7 v hv h
    · by_cases c : v = a + 1
      · rw [c]
        exact Or.inr hOt
      · rw [hOn v hv c]
        exact h8 v hv (by omega)
    · rw [hOn v hv (by omega)]
      exact h9 v hv h0 (by omega)
    · rw [hIn 0 (by omega) (by omega)]
      exact h6
    · by_cases c : v = a + 1
      · rw [c]
        exact hO
      · rw [hIn v hv c] at h
        exact h7 v hv h
    · by_cases c : v = a + 1
      · rw [c]
        exact Or.inl hIt
      · rw [hIn v hv c]
        exact h8 v hv (by omega)
    · rw [hIn v hv (by omega)]
      exact h9 v hv h0 (by omega)
    · by_cases c : v = a + 1
      · rw [c]
        cases hp : p (a + 1) with
        | true => rfl
        | false =>
          have q1 := (hF.2.2.2.2 p p3 (fun w hw hO' => by
            by_cases cw : w = a + 1
            · rw [cw]
              exact hp
            · rw [hOn w hw cw] at hO'
              exact p4 w hw hO')).1
          have q2 := M.1 X.testBit xnv
          rw [hF.2.2.2.1] at q2
          exact absurd (show s = g by omega) e
      · rw [hIn v hv c] at h
        exact p3 v hv h
  · refine ⟨by omega, 1, 0, by omega, by omega, rfl, rfl, k1, by decide, by decide, fun v hv h => absurd h (by omega), by decide, ?_⟩
    obtain ⟨_, p, p1, p2⟩ := M
    cases c : p 0 with
    | true =>
      refine ⟨p, p1, p2, fun v hv h => ?_, fun v hv h => ?_⟩
      · rw [(by decide : ∀ v, v < 6 → (1 : Nat).testBit v = true → v = 0) v hv h]
        exact c
      · rw [Nat.zero_testBit] at h
        exact absurd h (by decide)
    | false =>
      refine ⟨fun v => !p v, ?_, by rw [cf_cost_not hC.2]; exact p2, fun v hv h => ?_, fun v hv h => ?_⟩
      · obtain ⟨⟨a, a1, a2⟩, b, b1, b2⟩ := p1
        exact ⟨⟨b, b1, by show (!p b) = true; rw [b2]; rfl⟩, a, a1, by show (!p a) = false; rw [a2]; rfl⟩
      · rw [(by decide : ∀ v, v < 6 → (1 : Nat).testBit v = true → v = 0) v hv h]
        show (!p 0) = true
        rw [c]
        rfl
      · rw [Nat.zero_testBit] at h
        exact absurd h (by decide)
/-! forced -/
theorem cf_co : ∀ x, x < 64 → nI x &&& nI (63 - x) = 0 := by decide +kernel
theorem cf_forced {post : Int32 → St1 → Prop} {C : Nat → Nat} {u : St1} {X : Nat} (hu : cf_ar u.2.1 C) (hC : cf_cap C) (h1 : 1 ≤ X) (h2 : X < 63)
    (H : ∀ u' : St1, cf_ar u'.2.1 C → post (nI (cf_cost C X.testBit)) u') : wpX_forced post u (nI X) (nI (63 - X)) := by
  obtain ⟨f, a1, a2, a3, a4, a5, a6, a7, a8⟩ := u
  have hX : X < 64 := by omega
  unfold wpX_forced
  dsimp only
  refine br_f (nI_pos (by omega)) (br_f (nI_nlt (b := X) (a := 63) (by omega) (by omega)) (br_f (nI_pos (by omega)) (br_f (nI_nlt (b := 63 - X) (a := 63) (by omega) (by omega)) (br_t (cf_co X hX) (br_f (fun z => ?_) (br_f (fun z => ?_) (br_f (nI_ne0 (by omega) (by omega)) (br_f (nI_ne0 (by omega) (by omega)) ?_))))))))
  · have := (nI_eq (a := X) (b := 63) (by omega) (by omega)).mp z
    omega
  · have := (nI_eq (a := 63 - X) (b := 63) (by omega) (by omega)).mp z
    omega
  · refine cf_flow hu hC.1 hX (by omega) (fun v hv h => ?_) (fun s Z b2 b3 b4 hF => ?_)
    · rw [cf_not_bit X hX v hv, h]
      rfl
    · have e : cf_cost C X.testBit = s := by
        rw [← hF.2.2.2.1]
        refine cf_cost_congr (fun _ _ => rfl) (fun v hv => ?_)
        cases c : X.testBit v with
        | true => exact (hF.2.1 v hv c).symm
        | false => exact (hF.2.2.1 v hv (by rw [cf_not_bit X hX v hv, c]; rfl)).symm
      dsimp only
      rw [← e]
      exact H _ hu
theorem cf_forced0 {post : Int32 → St1 → Prop} {C : Nat → Nat} {u : St1} (hu : cf_ar u.2.1 C) (hC : cf_cap C)
    (H : ∀ (m : Nat) (u' : St1), cf_ar u'.2.1 C → cf_M C m → post (nI m) u') : wpX_forced post u 0 0 := by
  obtain ⟨f, a1, a2, a3, a4, a5, a6, a7, a8⟩ := u
  unfold wpX_forced
  dsimp only
  refine br_f (by decide) (br_f (by decide) (br_f (by decide) (br_f (by decide) (br_t (by decide) (br_f (by decide) (br_f (by decide) (br_t rfl ?_)))))))
  unfold wX_forced_55
  exact br_t rfl (br_t rfl (cf_leastU hu hC (fun m u' k hm => H m u' k hm)))
/-! the law's least -/
theorem cf_cost_row {C : Nat → Nat} (hC : ∀ i, i < 36 → C i ≤ 30) : cf_cost C (fun w => decide (w = 0)) ≤ 180 := by
  have h1 : cf_cost C (fun w => decide (w = 0)) ≤ cf_D (fun a b => if a = 0 then (fun _ => 30) b else 0) := by
    refine cf_D_le (fun a b ha hb => ?_)
    show (if decide (a = 0) = true ∧ decide (b = 0) = false then C (a * 6 + b) else 0) ≤ if a = 0 then 30 else 0
    have := hC (a * 6 + b) (by omega)
    by_cases c : a = 0
    · rw [if_pos c]
      by_cases d : decide (a = 0) = true ∧ decide (b = 0) = false
      · rw [if_pos d]
        exact this
      · rw [if_neg d]
        exact Nat.zero_le _
    · rw [if_neg (fun z => c (of_decide_eq_true z.1))]
      exact Nat.zero_le _
  rw [cf_D_row (by omega) (fun _ => 30)] at h1
  exact h1
theorem cf_Lleast {post : Int32 → St1 → Prop} {C : Nat → Nat} {u : St1} (hu : cf_ar u.2.1 C) (hC : cf_cap C) (H : ∀ u' : St1, cf_ar u'.2.1 C → post 1 u') : wpL_least post u := by
  obtain ⟨f, a1, a2, a3, a4, a5, a6, a7, a8⟩ := u
  show ∃ n, wL_least_6 post n 1000 0 f a1 a2 a3 a4 a5 a6 a7 a8
  refine pk_loop (σ := Int32 × St1) (fun n i s => wL_least_6 post n s.1 (nI i) s.2.1 s.2.2.1 s.2.2.2.1 s.2.2.2.2.1 s.2.2.2.2.2.1 s.2.2.2.2.2.2.1 s.2.2.2.2.2.2.2.1 s.2.2.2.2.2.2.2.2.1 s.2.2.2.2.2.2.2.2.2)
    (fun c s => ∃ y : Nat, y ≤ 1000 ∧ s.1 = nI y ∧ cf_ar s.2.2.1 C ∧ (∀ i, i < c → ∀ p : Nat → Bool, p (i / 6) = true → p (i % 6) = false → y ≤ cf_cost C p) ∧ (y = 1000 ∨ ∃ p, cf_nv p ∧ cf_cost C p = y)) 36 0 (1000, f, a1, a2, a3, a4, a5, a6, a7, a8) (by omega)
    ⟨1000, by omega, rfl, hu, fun i hi => absurd hi (by omega), Or.inl rfl⟩ ?_ ?_
  · rintro n ⟨x1, f, b1, b2, b3, b4, b5, b6, b7, b8⟩ ⟨y, h1, h2, h3, h4, h5⟩
    dsimp only at h2 h3
    subst h2
    have lo : ∀ p, cf_nv p → y ≤ cf_cost C p := by
      rintro p ⟨⟨a, a1, a2⟩, b, b1, b2⟩
      refine h4 (a * 6 + b) (by omega) p ?_ ?_
      · rw [show (a * 6 + b) / 6 = a by omega]
        exact a2
      · rw [show (a * 6 + b) % 6 = b by omega]
        exact b2
    have M : cf_M C y := by
      refine ⟨lo, ?_⟩
      rcases h5 with h5 | h5
      · have e1 := lo (fun w => decide (w = 0)) ⟨⟨0, by omega, rfl⟩, 1, by omega, rfl⟩
        have e2 := cf_cost_row hC.1
        omega
      · exact h5
    refine pk_le 36 36 (fun _ => ?_) (fun z => absurd z (by omega))
    refine cf_leastSide h3 hC (fun m X u1 k1 M1 x1 x2 x3 => ?_)
    obtain ⟨f1, c1, c2, c3, c4, c5, c6, c7, c8⟩ := u1
    refine cf_leastU k1 hC (fun m2 u2 k2 M2 => ?_)
    obtain ⟨f2, d1, d2, d3, d4, d5, d6, d7, d8⟩ := u2
    refine br_t (by rw [cf_M_uni M2 M]) (cf_costW k2 x1 x2 (br_t (by rw [x3, cf_M_uni M1 M]) (cf_forced0 k2 hC (fun m3 u3 k3 M3 => ?_))))
    obtain ⟨f3, e1, e2, e3, e4, e5, e6, e7, e8⟩ := u3
    exact br_t (by rw [cf_M_uni M3 M]) (H _ k3)
  · rintro n i ⟨x1, f, b1, b2, b3, b4, b5, b6, b7, b8⟩ hi ⟨y, h1, h2, h3, h4, h5⟩ hw
    dsimp only at h2 h3
    subst h2
    refine pk_le 36 i (fun z => absurd z (by omega)) (fun _ => ⟨by decide, by decide, ?_⟩)
    dsimp only
    rw [show nI i - nI i / 6 * 6 = nI (i % 6) from pk_rem (d := 6) (by omega) (by omega) (by omega), show nI i / 6 = nI (i / 6) from pk_div (d := 6) (by omega) (by omega) (by omega)]
    by_cases c : i / 6 = i % 6
    · rw [← c]
      refine cf_between0 (C := C) (by omega) (br_t (by decide) (nm_r (nI_1 i) (hw (nI y, f, b1, b2, b3, b4, b5, b6, b7, b8) ⟨y, h1, rfl, h3, fun k hk p p1 p2 => ?_, h5⟩)))
      by_cases e : k = i
      · rw [e, c] at p1
        rw [e, p1] at p2
        exact absurd p2 (by decide)
      · exact h4 k (by omega) p p1 p2
    · refine cf_between h3 hC (by omega) (by omega) c (fun s X u1 k1 F => ?_)
      obtain ⟨f1, c1, c2, c3, c4, c5, c6, c7, c8⟩ := u1
      have hs := cf_F_b hC F
      have pa : (2 ^ (i / 6)).testBit (i / 6) = true := by rw [cf_pw_bit _ (by omega) _ (by omega)]; exact decide_eq_true rfl
      have pb : (2 ^ (i % 6)).testBit (i % 6) = true := by rw [cf_pw_bit _ (by omega) _ (by omega)]; exact decide_eq_true rfl
      have lo : ∀ p : Nat → Bool, p (i / 6) = true → p (i % 6) = false → s ≤ cf_cost C p := by
        intro p p1 p2
        refine (F.2.2.2.2 p (fun v hv h => ?_) (fun v hv h => ?_)).1
        · rw [cf_pw_bit _ (by omega) v hv] at h
          rw [of_decide_eq_true h]
          exact p1
        · rw [cf_pw_bit _ (by omega) v hv] at h
          rw [of_decide_eq_true h]
          exact p2
      refine br_f (nI_pos (by omega)) (pk_le y s (fun z => nm_r (nI_1 i) (hw (nI y, f1, c1, c2, c3, c4, c5, c6, c7, c8) ⟨y, h1, rfl, k1, fun k hk p p1 p2 => ?_, h5⟩)) (fun z => nm_r (nI_1 i) (hw (nI s, f1, c1, c2, c3, c4, c5, c6, c7, c8) ⟨s, by omega, rfl, k1, fun k hk p p1 p2 => ?_, Or.inr ⟨X.testBit, ?_, F.2.2.2.1⟩⟩)))
      · by_cases e : k = i
        · rw [e] at p1 p2
          have := lo p p1 p2
          omega
        · exact h4 k (by omega) p p1 p2
      · by_cases e : k = i
        · rw [e] at p1 p2
          exact lo p p1 p2
        · have := h4 k (by omega) p p1 p2
          omega
      · exact ⟨⟨i / 6, by omega, F.2.1 _ (by omega) pa⟩, i % 6, by omega, F.2.2.1 _ (by omega) pb⟩
end
section
/-! the second print of flow is the first -/
theorem cf_e93 : wX_spread_2_93 = wX_spread_93 := by
  funext post J x2 x4 x5 n
  induction n with
  | zero => rfl
  | succ n ih =>
    unfold wX_spread_2_93 wX_spread_93
    rw [ih]
theorem cf_e68 : wX_spread_2_68 = wX_spread_68 := by
  funext post x2 n
  induction n with
  | zero => rfl
  | succ n ih =>
    unfold wX_spread_2_68 wX_spread_68
    rw [ih, cf_e93]
theorem cf_e10 : wX_spread_2_10 = wX_spread_10 := by
  funext post x1 x2 n
  induction n with
  | zero => rfl
  | succ n ih =>
    unfold wX_spread_2_10 wX_spread_10
    rw [ih, cf_e68]
theorem cf_eSpread : wpX_spread_2 = wpX_spread := by
  funext post u p0 p1
  obtain ⟨f, a1, a2, a3, a4, a5, a6, a7, a8⟩ := u
  unfold wpX_spread_2 wpX_spread
  rw [cf_e10]
theorem cf_e57 : wX_push_2_57 = wX_push_57 := by
  funext post x2 f n
  induction n with
  | zero => rfl
  | succ n ih =>
    unfold wX_push_2_57 wX_push_57
    rw [ih]
theorem cf_e5 : wX_push_2_5 = wX_push_5 := by
  funext post x1 f a1 a2 a3 a4 a5 a6 a7 a8 n
  induction n with
  | zero => rfl
  | succ n ih =>
    unfold wX_push_2_5 wX_push_5
    rw [ih, cf_e57]
theorem cf_ePush : wpX_push_2 = wpX_push := by
  funext post u p0
  obtain ⟨f, a1, a2, a3, a4, a5, a6, a7, a8⟩ := u
  unfold wpX_push_2 wpX_push
  rw [cf_e5]
theorem cf_e31 : wX_flow_2_31 = wX_flow_31 := by
  funext post x1 x2 n
  induction n with
  | zero => rfl
  | succ n ih =>
    unfold wX_flow_2_31 wX_flow_31
    rw [ih, cf_eSpread, cf_ePush]
theorem cf_e2 : wX_flow_2_2 = wX_flow_2 := by
  funext post x1 x2 f n
  induction n with
  | zero => rfl
  | succ n ih =>
    unfold wX_flow_2_2 wX_flow_2
    rw [ih, cf_e31]
theorem cf_eFlow : wpX_flow_2 = wpX_flow := by
  funext post u p0 p1
  obtain ⟨f, a1, a2, a3, a4, a5, a6, a7, a8⟩ := u
  unfold wpX_flow_2 wpX_flow
  rw [cf_e2]
/-! the tree after n places have been cut off -/
def cf_T (C : Nat → Nat) : Nat → (Nat → Nat) → (Nat → Nat) → Prop
  | 0 => fun ab st => (∀ i, i < 6 → ab i = 0) ∧ (∀ i, i < 6 → st i = 1048576)
  | n + 1 => fun ab st => ∃ (ab0 st0 : Nat → Nat) (r X : Nat), cf_T C n ab0 st0 ∧ cf_F C (2 ^ (n + 1)) (2 ^ (ab0 (n + 1))) r X ∧ (∀ i, i < 6 → st i = if i = n + 1 then r else st0 i) ∧
      (∀ i, i < 6 → ab i = if n + 1 < i ∧ X.testBit i = true ∧ ab0 i = ab0 (n + 1) then n + 1 else ab0 i)
theorem cf_T_uni {C : Nat → Nat} : ∀ n, n < 6 → ∀ ab st ab' st' : Nat → Nat, cf_T C n ab st → cf_T C n ab' st' → (∀ i, i < 6 → ab i = ab' i) ∧ (∀ i, i < 6 → st i = st' i) := by
  intro n
  induction n with
  | zero => exact fun _ ab st ab' st' h h' => ⟨fun i hi => by rw [h.1 i hi, h'.1 i hi], fun i hi => by rw [h.2 i hi, h'.2 i hi]⟩
  | succ n ih =>
    rintro hn ab st ab' st' ⟨b, s, r, X, h1, h2, h3, h4⟩ ⟨b', s', r', X', g1, g2, g3, g4⟩
    obtain ⟨e1, e2⟩ := ih (by omega) b s b' s' h1 g1
    rw [← e1 (n + 1) hn] at g2
    obtain ⟨rfl, rfl⟩ := cf_F_uni h2 g2
    refine ⟨fun i hi => ?_, fun i hi => ?_⟩
    · rw [h4 i hi, g4 i hi, e1 i hi, e1 (n + 1) hn]
    · rw [h3 i hi, g3 i hi, e2 i hi]
theorem cf_T_ab {C : Nat → Nat} : ∀ n, n < 6 → ∀ ab st : Nat → Nat, cf_T C n ab st → ab 0 = 0 ∧ ∀ i, i < 6 → 0 < i → ab i < i ∧ ab i ≤ n := by
  intro n
  induction n with
  | zero => exact fun _ ab st h => ⟨h.1 0 (by omega), fun i hi h0 => by rw [h.1 i hi]; omega⟩
  | succ n ih =>
    rintro hn ab st ⟨b, s, r, X, h1, h2, h3, h4⟩
    obtain ⟨e1, e2⟩ := ih (by omega) b s h1
    refine ⟨?_, fun i hi h0 => ?_⟩
    · rw [h4 0 (by omega), if_neg (fun z => absurd z.1 (by omega))]
      exact e1
    · have := e2 i hi h0
      rw [h4 i hi]
      by_cases c : n + 1 < i ∧ X.testBit i = true ∧ b i = b (n + 1)
      · rw [if_pos c]
        omega
      · rw [if_neg c]
        omega
theorem cf_T_st {C : Nat → Nat} (hC : cf_cap C) : ∀ n, n < 6 → ∀ ab st : Nat → Nat, cf_T C n ab st → ∀ i, i < 6 → st i ≤ 1048576 := by
  intro n
  induction n with
  | zero => exact fun _ ab st h i hi => by rw [h.2 i hi]; omega
  | succ n ih =>
    rintro hn ab st ⟨b, s, r, X, h1, h2, h3, h4⟩ i hi
    have e := ih (by omega) b s h1 i hi
    have e' := cf_F_b hC h2
    rw [h3 i hi]
    by_cases c : i = n + 1
    · rw [if_pos c]
      omega
    · rw [if_neg c]
      exact e
/-! the walk of grow -/
theorem cf_grow {post : St1 → Prop} {C : Nat → Nat} {u : St1} (hu : cf_ar u.2.1 C) (hC : cf_cap C)
    (H : ∀ (ab st : Nat → Nat) (f : Int32) (a1 a2 a3 a4 a5 a6 a7 a8 : Nat → Int32), cf_ar a1 C → cf_T C 5 ab st → (∀ i, i < 6 → a7 i = nI (ab i)) → (∀ i, i < 6 → a8 i = nI (st i)) → post (f, a1, a2, a3, a4, a5, a6, a7, a8)) : wpX_grow post u := by
  obtain ⟨f, a1, a2, a3, a4, a5, a6, a7, a8⟩ := u
  have hu' : cf_ar a1 C := hu
  show ∃ n, wX_grow_2 post f n 0 a1 a2 a3 a4 a5 a6 a7 a8
  refine pk_loop (σ := (Nat → Int32) × (Nat → Int32)) (fun n i s => wX_grow_2 post f n (nI i) a1 a2 a3 a4 a5 a6 s.1 s.2) (fun i s => (∀ k, k < i → s.1 k = nI 0) ∧ (∀ k, k < i → s.2 k = nI 1048576)) 6 0 (a7, a8) (by omega) ⟨fun k hk => absurd hk (by omega), fun k hk => absurd hk (by omega)⟩ ?_ ?_
  · rintro n ⟨b7, b8⟩ ⟨h7, h8⟩
    dsimp only at h7 h8
    refine pk_le 6 6 (fun _ => ?_) (fun z => absurd z (by omega))
    refine pk_loop (σ := Int32 × (Nat → Int32) × (Nat → Int32) × (Nat → Int32) × (Nat → Int32) × (Nat → Int32)) (fun n a s => wX_grow_31 post n (nI a) s.1 a1 s.2.1 s.2.2.1 s.2.2.2.1 a5 a6 s.2.2.2.2.1 s.2.2.2.2.2)
      (fun a s => 0 < a ∧ ∃ ab st : Nat → Nat, cf_T C (a - 1) ab st ∧ (∀ i, i < 6 → s.2.2.2.2.1 i = nI (ab i)) ∧ (∀ i, i < 6 → s.2.2.2.2.2 i = nI (st i))) 6 1 (f, a2, a3, a4, b7, b8) (by omega)
      ⟨by omega, fun _ => 0, fun _ => 1048576, ⟨fun _ _ => rfl, fun _ _ => rfl⟩, h7, h8⟩ ?_ ?_
    · rintro n ⟨f, c2, c3, c4, c7, c8⟩ ⟨_, ab, st, h1, h2, h3⟩
      exact pk_le 6 6 (fun _ => H ab st f a1 c2 c3 c4 a5 a6 c7 c8 hu' h1 h2 h3) (fun z => absurd z (by omega))
    · rintro n a ⟨f, c2, c3, c4, c7, c8⟩ ha ⟨h0, ab, st, h1, h2, h3⟩ hw
      dsimp only at h2 h3
      obtain ⟨t0, t1⟩ := cf_T_ab (a - 1) (by omega) ab st h1
      have ta := t1 a ha h0
      refine pk_le 6 a (fun z => absurd z (by omega)) (fun _ => ⟨pk_in a 6 ha, nm_r (e' := nI (ab a)) (by rw [cf_c1 (by omega)]; exact h2 a ha) ?_⟩)
      rw [cf_one a ha, cf_one (ab a) (by omega), cf_eFlow]
      refine cf_flow hu' hC.1 (cf_pw_lt a ha) (cf_pw_lt (ab a) (by omega)) (cf_dj ha (by omega) (by omega)) (fun r X d2 d3 d4 hF => ?_)
      refine ⟨pk_in a 6 ha, nm_r (e' := upd c8 a (nI r)) (by rw [cf_c1 (by omega)]) (nm_r (nI_1 a) ?_)⟩
      have hX := hF.1
      refine pk_loop (fun m b s => wX_grow_64 post (wX_grow_31 post n) (nI a) (nI (ab a)) (nI X) m (nI b) a1 d2 d3 d4 a5 a6 s (upd c8 a (nI r))) (fun b s => a < b ∧ ∀ i, i < 6 → s i = nI (if a < i ∧ i < b ∧ X.testBit i = true ∧ ab i = ab a then a else ab i)) 6 (a + 1) c7 (by omega) ⟨by omega, ?_⟩ ?_ ?_
      · intro i hi
        rw [if_neg (fun z => by omega)]
        exact h2 i hi
      · rintro m s ⟨_, hs⟩
        refine pk_le 6 6 (fun _ => nm_r (nI_1 a) (hw (nI X, d2, d3, d4, s, upd c8 a (nI r)) ⟨by omega, fun i => if a < i ∧ X.testBit i = true ∧ ab i = ab a then a else ab i, fun i => if i = a then r else st i, ?_, fun i hi => ?_, fun i hi => ?_⟩)) (fun z => absurd z (by omega))
        · obtain ⟨k, rfl⟩ : ∃ k, a = k + 1 := ⟨a - 1, by omega⟩
          exact ⟨ab, st, r, X, h1, hF, fun i _ => rfl, fun i _ => rfl⟩
        · show s i = nI (if a < i ∧ X.testBit i = true ∧ ab i = ab a then a else ab i)
          rw [hs i hi]
          by_cases c : a < i ∧ X.testBit i = true ∧ ab i = ab a
          · rw [if_pos c, if_pos ⟨c.1, hi, c.2⟩]
          · rw [if_neg c, if_neg (fun z => c ⟨z.1, z.2.2⟩)]
        · show upd c8 a (nI r) i = nI (if i = a then r else st i)
          by_cases c : i = a
          · rw [if_pos c, c, pk_us]
          · rw [if_neg c, pk_un c]
            exact h3 i hi
      · rintro m b s hb ⟨hab, hs⟩ hv
        have same : (X.testBit b = false ∨ ab b ≠ ab a) → ∀ i, i < 6 → s i = nI (if a < i ∧ i < b + 1 ∧ X.testBit i = true ∧ ab i = ab a then a else ab i) := by
          intro hc i hi
          rw [hs i hi]
          by_cases c : a < i ∧ i < b ∧ X.testBit i = true ∧ ab i = ab a
          · rw [if_pos c, if_pos ⟨c.1, by omega, c.2.2⟩]
          · rw [if_neg c, if_neg (fun z => ?_)]
            by_cases e : i = b
            · subst e
              rcases hc with hc | hc
              · rw [hc] at z
                exact absurd z.2.2.1 (by decide)
              · exact hc z.2.2.2
            · exact c ⟨z.1, by omega, z.2.2⟩
        have tb := t1 b hb (by omega)
        have eb : s (nI b).toNatClampNeg = nI (ab b) := by
          rw [cf_c1 (by omega), hs b hb, if_neg (fun z => absurd z.2.1 (by omega))]
        refine pk_le 6 b (fun z => absurd z (by omega)) (fun _ => cf_inb hX hb (fun hx => nm_r (nI_1 b) (hv _ ⟨by omega, same (Or.inl hx)⟩)) (fun hx => ⟨pk_in b 6 hb, ?_⟩))
        refine pk_eq (ab b) (ab a) (fun e => ⟨pk_in b 6 hb, nm_r (e' := upd s b (nI a)) (by rw [cf_c1 (by omega), cf_byte a ha]) (nm_r (nI_1 b) (hv _ ⟨by omega, fun i hi => ?_⟩))⟩) (fun e => nm_r (nI_1 b) (hv _ ⟨by omega, same (Or.inr e)⟩)) eb
        by_cases c : i = b
        · subst c
          rw [pk_us, if_pos ⟨by omega, by omega, hx, e⟩]
        · rw [pk_un c, hs i hi]
          by_cases d : a < i ∧ i < b ∧ X.testBit i = true ∧ ab i = ab a
          · rw [if_pos d, if_pos ⟨d.1, by omega, d.2.2⟩]
          · rw [if_neg d, if_neg (fun z => d ⟨z.1, by omega, z.2.2⟩)]
  · rintro n i ⟨b7, b8⟩ hi ⟨h7, h8⟩ hw
    dsimp only at h7 h8
    refine pk_le 6 i (fun z => absurd z (by omega)) (fun _ => ⟨pk_in i 6 hi, nm_r (e' := upd b7 i (nI 0)) (by rw [cf_c1 (by omega)]; rfl) ⟨pk_in i 6 hi, nm_r (e' := upd b8 i (nI 1048576)) (by rw [cf_c1 (by omega)]; rfl) (nm_r (nI_1 i) (hw (upd b7 i (nI 0), upd b8 i (nI 1048576)) ⟨fun k hk => ?_, fun k hk => ?_⟩))⟩⟩)
    · show upd b7 i (nI 0) k = nI 0
      by_cases c : k = i
      · rw [c, pk_us]
      · rw [pk_un c]
        exact h7 k (by omega)
    · show upd b8 i (nI 1048576) k = nI 1048576
      by_cases c : k = i
      · rw [c, pk_us]
      · rw [pk_un c]
        exact h8 k (by omega)
end
section
/-! the least strength on the way between two places, with steps to spare -/
def cf_o (ab st : Nat → Nat) : Nat → Nat → Nat → Nat
  | 0 => fun _ _ => 1048576
  | k + 1 => fun x y => if x = y then 1048576 else if x ≤ y then min (st y) (cf_o ab st k x (ab y)) else min (st x) (cf_o ab st k (ab x) y)
def cf_up (ab : Nat → Nat) : Prop := ab 0 = 0 ∧ ∀ i, i < 6 → 0 < i → ab i < i
theorem cf_up6 {ab : Nat → Nat} (h : cf_up ab) {i : Nat} (hi : i < 6) : ab i < 6 := by
  by_cases c : i = 0
  · rw [c, h.1]
    omega
  · have := h.2 i hi (by omega)
    omega
theorem cf_o_eq {ab st : Nat → Nat} {k x : Nat} : cf_o ab st k x x = 1048576 := by
  cases k with
  | zero => rfl
  | succ k => exact if_pos rfl
theorem cf_o_lt {ab st : Nat → Nat} {k x y : Nat} (h : x < y) : cf_o ab st (k + 1) x y = min (st y) (cf_o ab st k x (ab y)) := by
  show (if x = y then 1048576 else if x ≤ y then min (st y) (cf_o ab st k x (ab y)) else min (st x) (cf_o ab st k (ab x) y)) = _
  rw [if_neg (by omega), if_pos (by omega)]
theorem cf_o_gt {ab st : Nat → Nat} {k x y : Nat} (h : y < x) : cf_o ab st (k + 1) x y = min (st x) (cf_o ab st k (ab x) y) := by
  show (if x = y then 1048576 else if x ≤ y then min (st y) (cf_o ab st k x (ab y)) else min (st x) (cf_o ab st k (ab x) y)) = _
  rw [if_neg (by omega), if_neg (by omega)]
theorem cf_o_more {ab st : Nat → Nat} (hu : cf_up ab) : ∀ k x y, x < 6 → y < 6 → x + y ≤ k → cf_o ab st (k + 1) x y = cf_o ab st k x y := by
  intro k
  induction k with
  | zero =>
    intro x y hx hy h
    have e : x = y := by omega
    rw [e, cf_o_eq, cf_o_eq]
  | succ k ih =>
    intro x y hx hy h
    rcases Nat.lt_trichotomy x y with c | c | c
    · have h1 := hu.2 y hy (by omega)
      rw [cf_o_lt c, cf_o_lt c, ih x (ab y) hx (by omega) (by omega)]
    · rw [c, cf_o_eq, cf_o_eq]
    · have h1 := hu.2 x hx (by omega)
      rw [cf_o_gt c, cf_o_gt c, ih (ab x) y (by omega) hy (by omega)]
theorem cf_o_le {ab st : Nat → Nat} (hu : cf_up ab) : ∀ k x y, x < 6 → y < 6 → cf_o ab st k x y ≤ 1048576 := by
  intro k
  induction k with
  | zero => exact fun _ _ _ _ => Nat.le_refl _
  | succ k ih =>
    intro x y hx hy
    rcases Nat.lt_trichotomy x y with c | c | c
    · have h1 := ih x (ab y) hx (cf_up6 hu hy)
      rw [cf_o_lt c]
      omega
    · rw [c, cf_o_eq]
      exact Nat.le_refl _
    · have h1 := ih (ab x) y (cf_up6 hu hx) hy
      rw [cf_o_gt c]
      omega
theorem cf_o_congr {ab st ab' st' : Nat → Nat} (hu : cf_up ab) (h1 : ∀ i, i < 6 → ab i = ab' i) (h2 : ∀ i, i < 6 → st i = st' i) : ∀ k x y, x < 6 → y < 6 → cf_o ab st k x y = cf_o ab' st' k x y := by
  intro k
  induction k with
  | zero => exact fun _ _ _ _ => rfl
  | succ k ih =>
    intro x y hx hy
    rcases Nat.lt_trichotomy x y with c | c | c
    · rw [cf_o_lt c, cf_o_lt c, ih x (ab y) hx (cf_up6 hu hy), h2 y hy, h1 y hy]
    · rw [c, cf_o_eq, cf_o_eq]
    · rw [cf_o_gt c, cf_o_gt c, ih (ab x) y (cf_up6 hu hx) hy, h2 x hx, h1 x hx]
theorem cf_O_lt {ab st : Nat → Nat} (hu : cf_up ab) {x y : Nat} (hx : x < 6) (hy : y < 6) (h : x < y) : cf_o ab st 10 x y = min (st y) (cf_o ab st 10 x (ab y)) := by
  have h1 := hu.2 y hy (by omega)
  rw [cf_o_lt (k := 9) h, cf_o_more hu 9 x (ab y) hx (by omega) (by omega)]
theorem cf_O_gt {ab st : Nat → Nat} (hu : cf_up ab) {x y : Nat} (hx : x < 6) (hy : y < 6) (h : y < x) : cf_o ab st 10 x y = min (st x) (cf_o ab st 10 (ab x) y) := by
  have h1 := hu.2 x hx (by omega)
  rw [cf_o_gt (k := 9) h, cf_o_more hu 9 (ab x) y (by omega) hy (by omega)]
theorem cf_O_sym {ab st : Nat → Nat} (hu : cf_up ab) : ∀ t x y, x < 6 → y < 6 → x + y ≤ t → cf_o ab st 10 x y = cf_o ab st 10 y x := by
  intro t
  induction t with
  | zero =>
    intro x y _ _ h
    rw [show x = y by omega]
  | succ t ih =>
    intro x y hx hy h
    rcases Nat.lt_trichotomy x y with c | c | c
    · have h1 := hu.2 y hy (by omega)
      rw [cf_O_lt hu hx hy c, cf_O_gt hu hy hx c, ih x (ab y) hx (by omega) (by omega)]
    · rw [c]
    · have h1 := hu.2 x hx (by omega)
      rw [cf_O_gt hu hx hy c, cf_O_lt hu hy hx c, ih (ab x) y (by omega) hy (by omega)]
theorem cf_O_tri {ab st : Nat → Nat} (hu : cf_up ab) {c : Nat} (hc : c ≤ 1048576) : ∀ t x y z, x < 6 → y < 6 → z < 6 → x + y + z ≤ t → c ≤ cf_o ab st 10 x y → c ≤ cf_o ab st 10 y z → c ≤ cf_o ab st 10 x z := by
  intro t
  induction t with
  | zero =>
    intro x y z _ _ _ h _ _
    rw [show x = z by omega, cf_o_eq]
    exact hc
  | succ t ih =>
    intro x y z hx hy hz h g1 g2
    by_cases exz : x = z
    · rw [exz, cf_o_eq]
      exact hc
    by_cases exy : x = y
    · rw [exy]
      exact g2
    by_cases eyz : y = z
    · rw [← eyz]
      exact g1
    by_cases mx : y < x ∧ z < x
    · have h1 := hu.2 x hx (by omega)
      rw [cf_O_gt hu hx hy mx.1] at g1
      rw [cf_O_gt hu hx hz mx.2]
      have := ih (ab x) y z (by omega) hy hz (by omega) (by omega) g2
      omega
    · by_cases my : x < y ∧ z < y
      · have h1 := hu.2 y hy (by omega)
        rw [cf_O_lt hu hx hy my.1] at g1
        rw [cf_O_gt hu hy hz my.2] at g2
        exact ih x (ab y) z hx (by omega) hz (by omega) (by omega) (by omega)
      · have mz : x < z ∧ y < z := by omega
        have h1 := hu.2 z hz (by omega)
        rw [cf_O_lt hu hy hz mz.2] at g2
        rw [cf_O_lt hu hx hz mz.1]
        have := ih x y (ab z) hx hy (by omega) (by omega) g1 (by omega)
        omega
/-! the walk of onTree -/
theorem cf_w12 {post : Int32 → Prop} {ab st : Nat → Nat} {f : Int32} {a1 a2 a3 a4 a5 a6 a7 a8 : Nat → Int32} (hu : cf_up ab) (h7 : ∀ i, i < 6 → a7 i = nI (ab i)) (h8 : ∀ i, i < 6 → a8 i = nI (st i)) (hst : ∀ i, i < 6 → st i ≤ 1048576) :
    ∀ t x y m k : Nat, x < 6 → y < 6 → x + y ≤ t → k + t ≤ 11 → m ≤ 1048576 → post (nI (min m (cf_o ab st t x y))) → wX_onTree_12 post f a1 a2 a3 a4 a5 a6 a7 a8 (t + 1) (nI x) (nI y) (nI m) (nI k) := by
  intro t
  induction t with
  | zero =>
    intro x y m k hx hy h hk hm hp
    have e : x = y := by omega
    subst e
    rw [cf_o_eq, Nat.min_eq_left hm] at hp
    exact pk_le 12 k (fun z => absurd z (by omega)) (fun _ => br_t rfl hp)
  | succ t ih =>
    intro x y m k hx hy h hk hm hp
    refine pk_le 12 k (fun z => absurd z (by omega)) (fun _ => pk_eq x y (fun e => ?_) (fun e => ?_))
    · subst e
      rw [cf_o_eq, Nat.min_eq_left hm] at hp
      exact hp
    · have e8y : a8 (nI y).toNatClampNeg = nI (st y) := by
        rw [cf_c1 (by omega)]
        exact h8 y hy
      have e8x : a8 (nI x).toNatClampNeg = nI (st x) := by
        rw [cf_c1 (by omega)]
        exact h8 x hx
      have e7y : a7 (nI y).toNatClampNeg = nI (ab y) := by
        rw [cf_c1 (by omega)]
        exact h7 y hy
      have e7x : a7 (nI x).toNatClampNeg = nI (ab x) := by
        rw [cf_c1 (by omega)]
        exact h7 x hx
      have sx := hst x hx
      have sy := hst y hy
      refine pk_le x y (fun z => ⟨pk_in y 6 hy, ?_⟩) (fun z => ⟨pk_in x 6 hx, ?_⟩)
      · have h1 := hu.2 y hy (by omega)
        rw [cf_o_lt (by omega)] at hp
        refine pk_le m (st y) (fun z' => ⟨pk_in y 6 hy, nm_r e7y (nm_r (nI_1 k) (ih x (ab y) m (k + 1) hx (by omega) (by omega) (by omega) hm ?_))⟩) (fun z' => ⟨pk_in y 6 hy, ?_⟩) rfl e8y
        · rw [show min m (cf_o ab st t x (ab y)) = min m (min (st y) (cf_o ab st t x (ab y))) by omega]
          exact hp
        · rw [e8y]
          refine ⟨pk_in y 6 hy, nm_r e7y (nm_r (nI_1 k) (ih x (ab y) (st y) (k + 1) hx (by omega) (by omega) (by omega) sy ?_))⟩
          rw [show min (st y) (cf_o ab st t x (ab y)) = min m (min (st y) (cf_o ab st t x (ab y))) by omega]
          exact hp
      · have h1 := hu.2 x hx (by omega)
        rw [cf_o_gt z] at hp
        refine pk_le m (st x) (fun z' => ⟨pk_in x 6 hx, nm_r e7x (nm_r (nI_1 k) (ih (ab x) y m (k + 1) (by omega) hy (by omega) (by omega) hm ?_))⟩) (fun z' => ⟨pk_in x 6 hx, ?_⟩) rfl e8x
        · rw [show min m (cf_o ab st t (ab x) y) = min m (min (st x) (cf_o ab st t (ab x) y)) by omega]
          exact hp
        · rw [e8x]
          refine ⟨pk_in x 6 hx, nm_r e7x (nm_r (nI_1 k) (ih (ab x) y (st x) (k + 1) (by omega) hy (by omega) (by omega) sx ?_))⟩
          rw [show min (st x) (cf_o ab st t (ab x) y) = min m (min (st x) (cf_o ab st t (ab x) y)) by omega]
          exact hp
theorem cf_onTree {post : Int32 → Prop} {ab st : Nat → Nat} {f : Int32} {a1 a2 a3 a4 a5 a6 a7 a8 : Nat → Int32} (hu : cf_up ab) (h7 : ∀ i, i < 6 → a7 i = nI (ab i)) (h8 : ∀ i, i < 6 → a8 i = nI (st i)) (hst : ∀ i, i < 6 → st i ≤ 1048576)
    {x y : Nat} (hx : x < 6) (hy : y < 6) (H : post (nI (cf_o ab st 10 x y))) : wpX_onTree post (f, a1, a2, a3, a4, a5, a6, a7, a8) (nI x) (nI y) := by
  refine ⟨10 + 1, cf_w12 hu h7 h8 hst 10 x y 1048576 0 hx hy (by omega) (by omega) (by omega) ?_⟩
  rw [Nat.min_eq_right (cf_o_le hu 10 x y hx hy)]
  exact H
/-! the walk of group -/
theorem cf_or0 : ∀ m, m < 64 → nI m ||| 0 = nI m := by decide +kernel
theorem cf_group {post : Int32 → St1 → Prop} {C : Nat → Nat} {u : St1} {a c : Nat} (hu : cf_ar u.2.1 C) (hC : cf_cap C) (ha : a < 6) (hc : c < 64)
    (H : ∀ (ab st : Nat → Nat) (G : Nat) (u' : St1), cf_ar u'.2.1 C → cf_T C 5 ab st → G < 64 → (∀ v, v < 6 → (G.testBit v = true ↔ (v = a ∨ c ≤ cf_o ab st 10 a v))) → post (nI G) u') : wpX_group post u (nI a) (nI c) := by
  obtain ⟨f, a1, a2, a3, a4, a5, a6, a7, a8⟩ := u
  unfold wpX_group
  dsimp only
  refine cf_place ha (br_f (by decide) (cf_grow hu hC (fun ab st f b1 b2 b3 b4 b5 b6 b7 b8 k1 T h7 h8 => nm_r (cf_one a ha) ?_)))
  obtain ⟨t0, t1⟩ := cf_T_ab 5 (by omega) ab st T
  have hup : cf_up ab := ⟨t0, fun i hi h0 => (t1 i hi h0).1⟩
  refine pk_loop (σ := Int32) (fun n i s => wX_group_20 post (nI a) (nI c) f b1 b2 b3 b4 b5 b6 b7 b8 n s (nI i)) (fun b s => ∃ G : Nat, G < 64 ∧ s = nI G ∧ ∀ v, v < 6 → (G.testBit v = true ↔ (v = a ∨ (v < b ∧ c ≤ cf_o ab st 10 a v)))) 6 0 (nI (2 ^ a)) (by omega) ⟨2 ^ a, cf_pw_lt a ha, rfl, fun v hv => ?_⟩ ?_ ?_
  · rw [cf_pw_bit a ha v hv, decide_eq_true_iff]
    omega
  · rintro n s ⟨G, g1, rfl, g2⟩
    refine pk_le 6 6 (fun _ => H ab st G (f, b1, b2, b3, b4, b5, b6, b7, b8) k1 T g1 (fun v hv => ?_)) (fun z => absurd z (by omega))
    rw [g2 v hv]
    omega
  · rintro n b s hb ⟨G, g1, rfl, g2⟩ hw
    have ho := cf_o_le (st := st) hup 10 a b ha hb
    refine pk_le 6 b (fun z => absurd z (by omega)) (fun _ => cf_onTree hup h7 h8 (cf_T_st hC 5 (by omega) ab st T) ha hb ?_)
    refine pk_eq b a (fun e => nm_r (cf_or0 G g1) (nm_r (nI_1 b) (hw _ ⟨G, g1, rfl, fun v hv => ?_⟩))) (fun e => pk_lt (cf_o ab st 10 a b) c (fun z => nm_r (cf_or0 G g1) (nm_r (nI_1 b) (hw _ ⟨G, g1, rfl, fun v hv => ?_⟩))) (fun z => nm_r (cf_or G g1 b hb) (nm_r (nI_1 b) (hw _ ⟨G ||| 2 ^ b, cf_or_lt G g1 b hb, rfl, fun v hv => ?_⟩))))
    · rw [g2 v hv]
      by_cases d : v = b
      · subst d
        omega
      · omega
    · rw [g2 v hv]
      by_cases d : v = b
      · subst d
        omega
      · omega
    · by_cases d : v = b
      · subst d
        rw [cf_or_t g1 hb]
        exact ⟨fun _ => Or.inr ⟨by omega, z⟩, fun _ => rfl⟩
      · rw [cf_or_n g1 hb hv d, g2 v hv]
        omega
/-! the law's groups -/
theorem cf_dis0 : ∀ x, x < 64 → ∀ z, z < 64 → (∀ v, v < 6 → x.testBit v = true → z.testBit v = false) → nI x &&& nI z = 0 := by decide +kernel
theorem cf_grp {C : Nat → Nat} {ab st ab' st' : Nat → Nat} {a b c G G' : Nat} (T : cf_T C 5 ab st) (T' : cf_T C 5 ab' st') (ha : a < 6) (hb : b < 6) (hc : c < 64) (hG : G < 64) (hG' : G' < 64)
    (g : ∀ v, v < 6 → (G.testBit v = true ↔ (v = a ∨ c ≤ cf_o ab st 10 a v))) (g' : ∀ v, v < 6 → (G'.testBit v = true ↔ (v = b ∨ c ≤ cf_o ab' st' 10 b v))) :
    (G.testBit b = true ∧ G'.testBit a = true ∧ G = G') ∨ (G.testBit b = false ∧ G'.testBit a = false ∧ nI G &&& nI G' = 0) := by
  obtain ⟨t0, t1⟩ := cf_T_ab 5 (by omega) ab st T
  have hup : cf_up ab := ⟨t0, fun i hi h0 => (t1 i hi h0).1⟩
  obtain ⟨u1, u2⟩ := cf_T_uni 5 (by omega) ab st ab' st' T T'
  have sym : ∀ x y, x < 6 → y < 6 → cf_o ab st 10 x y = cf_o ab st 10 y x := fun x y hx hy => cf_O_sym hup 10 x y hx hy (by omega)
  have tri : ∀ x y z, x < 6 → y < 6 → z < 6 → c ≤ cf_o ab st 10 x y → c ≤ cf_o ab st 10 y z → c ≤ cf_o ab st 10 x z := fun x y z hx hy hz => cf_O_tri hup (by omega) 15 x y z hx hy hz (by omega)
  have g2 : ∀ v, v < 6 → (G'.testBit v = true ↔ (v = b ∨ c ≤ cf_o ab st 10 b v)) := fun v hv => by
    rw [g' v hv, cf_o_congr hup u1 u2 10 b v hb hv]
  have self : ∀ x, c ≤ cf_o ab st 10 x x := fun x => by
    rw [cf_o_eq]
    omega
  have g3 : ∀ v, v < 6 → (G.testBit v = true ↔ c ≤ cf_o ab st 10 a v) := fun v hv => by
    rw [g v hv]
    exact ⟨fun h => h.elim (fun e => by rw [e]; exact self a) id, Or.inr⟩
  have g4 : ∀ v, v < 6 → (G'.testBit v = true ↔ c ≤ cf_o ab st 10 b v) := fun v hv => by
    rw [g2 v hv]
    exact ⟨fun h => h.elim (fun e => by rw [e]; exact self b) id, Or.inr⟩
  cases e : G.testBit b with
  | true =>
    have k := (g3 b hb).mp e
    have k' : c ≤ cf_o ab st 10 b a := by
      rw [sym b a hb ha]
      exact k
    refine Or.inl ⟨rfl, (g4 a ha).mpr k', cf_mask_ext hG hG' (fun v hv => ?_)⟩
    cases e1 : G.testBit v with
    | true => exact ((g4 v hv).mpr (tri b a v hb ha hv k' ((g3 v hv).mp e1))).symm
    | false =>
      cases e2 : G'.testBit v with
      | false => rfl
      | true =>
        have := (g3 v hv).mpr (tri a b v ha hb hv k ((g4 v hv).mp e2))
        rw [e1] at this
        exact this
  | false =>
    have k : ¬ c ≤ cf_o ab st 10 a b := fun z => by
      have := (g3 b hb).mpr z
      rw [e] at this
      exact absurd this (by decide)
    refine Or.inr ⟨rfl, ?_, cf_dis0 G hG G' hG' (fun v hv h => ?_)⟩
    · cases e1 : G'.testBit a with
      | false => rfl
      | true =>
        have := (g4 a ha).mp e1
        rw [sym b a hb ha] at this
        exact absurd this k
    · cases e1 : G'.testBit v with
      | false => rfl
      | true =>
        have k1 := (g3 v hv).mp h
        have k2 := (g4 v hv).mp e1
        rw [sym b v hb hv] at k2
        exact absurd (tri a v b ha hv hb k1 k2) k
theorem cf_Lgroups {post : Int32 → St1 → Prop} {C : Nat → Nat} {u : St1} {c : Nat} (hu : cf_ar u.2.1 C) (hC : cf_cap C) (hc : c < 64) (H : ∀ u' : St1, cf_ar u'.2.1 C → post 1 u') : wpL_groups post u (nI c) := by
  obtain ⟨f, a1, a2, a3, a4, a5, a6, a7, a8⟩ := u
  show ∃ n, wL_groups_2 post (nI c) n 0 f a1 a2 a3 a4 a5 a6 a7 a8
  refine pk_loop (σ := St1) (fun n i s => wL_groups_2 post (nI c) n (nI i) s.1 s.2.1 s.2.2.1 s.2.2.2.1 s.2.2.2.2.1 s.2.2.2.2.2.1 s.2.2.2.2.2.2.1 s.2.2.2.2.2.2.2.1 s.2.2.2.2.2.2.2.2) (fun _ s => cf_ar s.2.1 C) 6 0 (f, a1, a2, a3, a4, a5, a6, a7, a8) (by omega) hu ?_ ?_
  · rintro n ⟨f, b1, b2, b3, b4, b5, b6, b7, b8⟩ h
    exact pk_le 6 6 (fun _ => H (f, b1, b2, b3, b4, b5, b6, b7, b8) h) (fun z => absurd z (by omega))
  · rintro n a ⟨f, b1, b2, b3, b4, b5, b6, b7, b8⟩ ha h hw
    refine pk_le 6 a (fun z => absurd z (by omega)) (fun _ => cf_group h hC ha hc (fun ab st G u1 k1 T hG g => ?_))
    obtain ⟨f1, c1, c2, c3, c4, c5, c6, c7, c8⟩ := u1
    refine pk_loop (σ := St1) (fun m i s => wL_groups_18 post (wL_groups_2 post (nI c) n) (nI c) (nI a) (nI G) m (nI i) s.1 s.2.1 s.2.2.1 s.2.2.2.1 s.2.2.2.2.1 s.2.2.2.2.2.1 s.2.2.2.2.2.2.1 s.2.2.2.2.2.2.2.1 s.2.2.2.2.2.2.2.2) (fun _ s => cf_ar s.2.1 C) 6 0 (f1, c1, c2, c3, c4, c5, c6, c7, c8) (by omega) k1 ?_ ?_
    · rintro m ⟨f, d1, d2, d3, d4, d5, d6, d7, d8⟩ k
      exact pk_le 6 6 (fun _ => nm_r (nI_1 a) (hw (f, d1, d2, d3, d4, d5, d6, d7, d8) k)) (fun z => absurd z (by omega))
    · rintro m b ⟨f, d1, d2, d3, d4, d5, d6, d7, d8⟩ hb k hv
      refine pk_le 6 b (fun z => absurd z (by omega)) (fun _ => cf_group k hC hb hc (fun ab' st' G' u2 k2 T' hG' g' => ?_))
      obtain ⟨f2, e1, e2, e3, e4, e5, e6, e7, e8⟩ := u2
      have next := hv (f2, e1, e2, e3, e4, e5, e6, e7, e8) k2
      rcases cf_grp T T' ha hb hc hG hG' g g' with ⟨q1, q2, q3⟩ | ⟨q1, q2, q3⟩
      · refine br_t ((cf_bit1 G hG b hb).mpr q1) ?_
        unfold wL_groups_49
        refine br_t ((cf_bit1 G' hG' a ha).mpr q2) ?_
        unfold wL_groups_68
        exact br_t rfl (br_f (by decide) (br_t (by rw [q3]) (nm_r (nI_1 b) next)))
      · refine br_f (fun z => ?_) ?_
        · have := (cf_bit1 G hG b hb).mp z
          rw [q1] at this
          exact absurd this (by decide)
        unfold wL_groups_49
        refine br_f (fun z => ?_) ?_
        · have := (cf_bit1 G' hG' a ha).mp z
          rw [q2] at this
          exact absurd this (by decide)
        unfold wL_groups_68
        exact br_t rfl (br_t rfl (br_t q3 (nm_r (nI_1 b) next)))
end
section
/-! the law -/
theorem cf_md (x : Int32) (d : Nat) (h0 : 0 < d) (hd : d < 2 ^ 31) : ∃ m, m < d ∧ (x &&& 255) - (x &&& 255) / nI d * nI d = nI m := by
  obtain ⟨m, hm, e⟩ := pk_andE x (m := 255) 8 (by decide)
  refine ⟨m % d, Nat.mod_lt _ h0, ?_⟩
  rw [e]
  exact pk_rem (by omega) h0 hd
theorem cf_nx (x : Int32) {a : Nat} (ha : a < 6) : ∃ b, b < 6 ∧ a ≠ b ∧ ((nI a + 1) + ((x &&& 255) - (x &&& 255) / 5 * 5)) - ((nI a + 1) + ((x &&& 255) - (x &&& 255) / 5 * 5)) / 6 * 6 = nI b := by
  obtain ⟨t, ht, e⟩ := cf_md x 5 (by omega) (by omega)
  have e' : (x &&& 255) - (x &&& 255) / 5 * 5 = nI t := e
  refine ⟨(a + 1 + t) % 6, Nat.mod_lt _ (by omega), by omega, ?_⟩
  rw [e', nI_1, nI_add]
  exact pk_rem (d := 6) (by omega) (by omega) (by omega)
theorem cf_w79 {L : Nat} {xs : Nat → Int32} {J : Int32 → Int32 → (Nat → Int32) → (Nat → Int32) → (Nat → Int32) → (Nat → Int32) → (Nat → Int32) → (Nat → Int32) → (Nat → Int32) → (Nat → Int32) → Prop} {C : Nat → Nat} {i a b c kc ks : Nat} {x f : Int32} {a1 a2 a3 a4 a5 a6 a7 a8 : Nat → Int32}
    (hu : cf_ar a1 C) (hC : cf_cap C) (ha : a < 6) (hb : b < 6) (hn : a ≠ b) (hc : c ≤ 30)
    (HJ : ∀ (C' : Nat → Nat) (f : Int32) (b1 b2 b3 b4 b5 b6 b7 b8 : Nat → Int32), cf_cap C' → cf_ar b1 C' → J (nI (i + 1)) f b1 b2 b3 b4 b5 b6 b7 b8) :
    wL_law_79 (fun r => r = 1) L xs J (nI i) x (nI c) (nI b) (nI a) kc ks f a1 a2 a3 a4 a5 a6 a7 a8 := by
  obtain ⟨p, hp, ep⟩ := cf_md (x >>> ((3 : Int32) &&& 31)) 6 (by omega) (by omega)
  obtain ⟨q, hq, hpq, eq⟩ := cf_nx (x >>> ((11 : Int32) &&& 31)) hp
  obtain ⟨m, hm, em⟩ := cf_md (x >>> ((5 : Int32) &&& 31)) 62 (by omega) (by omega)
  obtain ⟨t, ht, et⟩ := pk_andE (x >>> ((18 : Int32) &&& 31)) (m := 63) 6 (by decide)
  have em' : 1 + (((x >>> ((5 : Int32) &&& 31)) &&& 255) - ((x >>> ((5 : Int32) &&& 31)) &&& 255) / 62 * 62) = nI (1 + m) := by
    rw [show ((x >>> ((5 : Int32) &&& 31)) &&& 255) - ((x >>> ((5 : Int32) &&& 31)) &&& 255) / 62 * 62 = nI m from em]
    exact nI_add 1 m
  unfold wL_law_79
  refine cf_set (u := (f, a1, a2, a3, a4, a5, a6, a7, a8)) hu hC ha hb hn hc (fun C' u1 hC' k1 => ?_)
  obtain ⟨f1, b1, b2, b3, b4, b5, b6, b7, b8⟩ := u1
  refine ⟨by decide, nm_r ep ⟨by decide, by decide, nm_r eq ⟨by decide, nm_r em' (cf_Lbetween k1 hC' hp hq hpq (fun u2 k2 => ?_))⟩⟩⟩
  obtain ⟨f2, c1, c2, c3, c4, c5, c6, c7, c8⟩ := u2
  refine br_f (by decide) (cf_Lleast k2 hC' (fun u3 k3 => ?_))
  obtain ⟨f3, d1, d2, d3, d4, d5, d6, d7, d8⟩ := u3
  refine br_f (by decide) ?_
  rw [show (63 : Int32) - nI (1 + m) = nI (63 - (1 + m)) from pk_sub (a := 63) (by omega)]
  refine cf_forced k3 hC' (by omega) (by omega) (fun u4 k4 => ?_)
  obtain ⟨f4, e1, e2, e3, e4, e5, e6, e7, e8⟩ := u4
  refine cf_costW k4 (by omega) (by omega) (br_t rfl ?_)
  rw [et]
  refine cf_Lgroups k4 hC' (by omega) (fun u5 k5 => ?_)
  obtain ⟨f5, g1, g2, g3, g4, g5, g6, g7, g8⟩ := u5
  exact br_f (by decide) (nm_r (nI_1 i) (HJ C' f5 g1 g2 g3 g4 g5 g6 g7 g8 hC' k5))
theorem i_vc (xs : Nat → Int32) (L : Nat) (hL : L ≤ 260) : wpL_law (fun r => r = 1) L xs := by
  refine ⟨8, 140, by decide, by decide, ?_⟩
  unfold wpX_init
  refine ⟨by decide, by decide, by decide, by decide, by decide, by decide, by decide, by decide, by decide, by decide, by decide, by decide, by decide, by decide, by decide, by decide, ?_⟩
  refine pk_loop (σ := St1) (fun n i s => wL_law_10 (fun r => r = 1) L xs (1 + 8) (9 + 140) n (nI i) s.1 s.2.1 s.2.2.1 s.2.2.2.1 s.2.2.2.2.1 s.2.2.2.2.2.1 s.2.2.2.2.2.2.1 s.2.2.2.2.2.2.2.1 s.2.2.2.2.2.2.2.2) (fun _ s => ∃ C, cf_cap C ∧ cf_ar s.2.1 C) L 0
    (0, (fun _ => 0), (fun _ => 0), (fun _ => 0), (fun _ => 0), (fun _ => 0), (fun _ => 0), (fun _ => 0), (fun _ => 0)) (by omega) ⟨fun _ => 0, ⟨fun _ _ => Nat.zero_le _, fun _ _ _ _ => rfl⟩, fun _ _ => rfl⟩ ?_ ?_
  · intro n s _
    exact pk_le L L (fun _ => rfl) (fun z => absurd z (by omega))
  · rintro n i ⟨f, a1, a2, a3, a4, a5, a6, a7, a8⟩ hi ⟨C, hC, hu⟩ hw
    dsimp only at hu
    refine pk_le L i (fun z => absurd z (by omega)) (fun _ => ⟨pk_in i L hi, nm_e ?_⟩)
    dsimp only
    generalize xs (nI i).toNatClampNeg = x
    obtain ⟨a, ha, ea⟩ := cf_md x 6 (by omega) (by omega)
    obtain ⟨b, hb, hab, eb⟩ := cf_nx (x >>> ((8 : Int32) &&& 31)) ha
    obtain ⟨c, hc, ec⟩ := cf_md (x >>> ((18 : Int32) &&& 31)) 31 (by omega) (by omega)
    refine ⟨by decide, nm_r ea ⟨by decide, by decide, nm_r eb (br_c (fun _ => ?_) (fun _ => ⟨by decide, ?_⟩))⟩⟩
    · exact cf_w79 (c := 0) hu hC ha hb hab (by omega) (fun C' f' b1 b2 b3 b4 b5 b6 b7 b8 hC' k => hw (f', b1, b2, b3, b4, b5, b6, b7, b8) ⟨C', hC', k⟩)
    · rw [show ((x >>> ((18 : Int32) &&& 31)) &&& 255) - ((x >>> ((18 : Int32) &&& 31)) &&& 255) / 31 * 31 = nI c from ec]
      exact cf_w79 hu hC ha hb hab (by omega) (fun C' f' b1 b2 b3 b4 b5 b6 b7 b8 hC' k => hw (f', b1, b2, b3, b4, b5, b6, b7, b8) ⟨C', hC', k⟩)
end
