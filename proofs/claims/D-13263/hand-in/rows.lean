section
/-! ===== 01: the pure picture: messages, sets, rows ===== -/
def fn_sl (b : Bool) (a : Nat) : Nat := if b = true then a else 0
/-- what a message's pieces add up to over a set -/
def fn_sm (m s : Nat) : Nat := (fn_sl (s.testBit 0) (m % 8) ^^^ fn_sl (s.testBit 1) (m / 8 % 8)) ^^^ fn_sl (s.testBit 2) (m / 64)
theorem fn_sl_x (b c : Bool) (a : Nat) : fn_sl (b ^^ c) a = fn_sl b a ^^^ fn_sl c a := by
  cases b <;> cases c <;> simp [fn_sl]
theorem fn_sl_y (b : Bool) (x y : Nat) : fn_sl b (x ^^^ y) = fn_sl b x ^^^ fn_sl b y := by
  cases b <;> simp [fn_sl]
theorem fn_sl_lt (b : Bool) {a n : Nat} (h : a < n) : fn_sl b a < n := by
  cases b
  · show 0 < n
    omega
  · exact h
theorem fn_x6 (a b c d e f : Nat) : ((a ^^^ b) ^^^ (c ^^^ d)) ^^^ (e ^^^ f) = ((a ^^^ c) ^^^ e) ^^^ ((b ^^^ d) ^^^ f) := by ac_rfl
theorem fn_xk (a c : Nat) : (a ^^^ c) ^^^ c = a := by rw [Nat.xor_assoc, Nat.xor_self, Nat.xor_zero]
theorem fn_xc {a b c : Nat} (h : a ^^^ c = b ^^^ c) : a = b := by rw [← fn_xk a c, h, fn_xk]
theorem fn_x4 (a b c : Nat) : (a ^^^ b) ^^^ (c ^^^ b) = a ^^^ c := by
  rw [show (a ^^^ b) ^^^ (c ^^^ b) = (a ^^^ c) ^^^ (b ^^^ b) from by ac_rfl, Nat.xor_self, Nat.xor_zero]
theorem fn_x0 {a b : Nat} : a ^^^ b = 0 ↔ a = b := by
  constructor
  · intro h
    exact fn_xc (c := b) (by rw [h, Nat.xor_self])
  · intro h
    rw [h, Nat.xor_self]
theorem fn_xe {a b c d : Nat} (h : a ^^^ b = c ^^^ d) : a = b ↔ c = d := by rw [← fn_x0, h, fn_x0]
theorem fn_sm_s (m s t : Nat) : fn_sm m (s ^^^ t) = fn_sm m s ^^^ fn_sm m t := by
  unfold fn_sm
  rw [Nat.testBit_xor, Nat.testBit_xor, Nat.testBit_xor, fn_sl_x, fn_sl_x, fn_sl_x, fn_x6]
theorem fn_m8 (m d : Nat) : (m ^^^ d) % 8 = m % 8 ^^^ d % 8 := Nat.xor_mod_two_pow (n := 3)
theorem fn_d8 (m d : Nat) : (m ^^^ d) / 8 = m / 8 ^^^ d / 8 := Nat.xor_div_two_pow (n := 3)
theorem fn_d64 (m d : Nat) : (m ^^^ d) / 64 = m / 64 ^^^ d / 64 := Nat.xor_div_two_pow (n := 6)
theorem fn_sm_m (m d s : Nat) : fn_sm (m ^^^ d) s = fn_sm m s ^^^ fn_sm d s := by
  unfold fn_sm
  rw [fn_m8, fn_d8, fn_m8, fn_d64, fn_sl_y, fn_sl_y, fn_sl_y, fn_x6]
theorem fn_sm_0 (m : Nat) : fn_sm m 0 = 0 := by simp [fn_sm, fn_sl]
theorem fn_x8 {a b : Nat} (ha : a < 8) (hb : b < 8) : a ^^^ b < 8 := Nat.xor_lt_two_pow (n := 3) ha hb
theorem fn_x512 {a b : Nat} (ha : a < 512) (hb : b < 512) : a ^^^ b < 512 := Nat.xor_lt_two_pow (n := 9) ha hb
theorem fn_sm_lt {m : Nat} (h : m < 512) (s : Nat) : fn_sm m s < 8 :=
  fn_x8 (fn_x8 (fn_sl_lt _ (by omega)) (fn_sl_lt _ (by omega))) (fn_sl_lt _ (by omega))
/-- one step of reduce: on a set alone; on a set and its value -/
def fn_s1 (r i s : Nat) : Nat := if s.testBit i = true ∧ r ≠ 0 then s ^^^ r else s
def fn_r3 (a b c s : Nat) : Nat := fn_s1 a 0 (fn_s1 b 1 (fn_s1 c 2 s))
def fn_st (R V : Nat → Nat) (i : Nat) (p : Nat × Nat) : Nat × Nat := if p.1.testBit i = true ∧ R i ≠ 0 then (p.1 ^^^ R i, p.2 ^^^ V i) else p
def fn_rd (R V : Nat → Nat) : Nat → Nat × Nat → Nat × Nat
  | 0 => fun p => p
  | i + 1 => fun p => fn_rd R V i (fn_st R V i p)
def fn_red (R V : Nat → Nat) (p : Nat × Nat) : Nat × Nat := fn_st R V 0 (fn_st R V 1 (fn_st R V 2 p))
theorem fn_st_1 (R V : Nat → Nat) (i : Nat) (p : Nat × Nat) : (fn_st R V i p).1 = fn_s1 (R i) i p.1 := by
  unfold fn_st fn_s1
  split <;> rfl
theorem fn_st_z {R : Nat → Nat} (V : Nat → Nat) {i : Nat} (h : R i = 0) (p : Nat × Nat) : fn_st R V i p = p := by
  unfold fn_st
  rw [if_neg (fun z => z.2 h)]
theorem fn_st_n {R : Nat → Nat} (V : Nat → Nat) {i : Nat} {p : Nat × Nat} (h : p.1.testBit i = false) : fn_st R V i p = p := by
  unfold fn_st
  rw [if_neg (fun z => by rw [h] at z; exact absurd z.1 (by decide))]
theorem fn_st_y {R : Nat → Nat} (V : Nat → Nat) {i : Nat} {p : Nat × Nat} (h : p.1.testBit i = true) (hr : R i ≠ 0) : fn_st R V i p = (p.1 ^^^ R i, p.2 ^^^ V i) := by
  unfold fn_st
  rw [if_pos ⟨h, hr⟩]
theorem fn_rd8 {R V : Nat → Nat} (h : ∀ j, 3 ≤ j → R j = 0) (p : Nat × Nat) : fn_rd R V 8 p = fn_red R V p := by
  show fn_st R V 0 (fn_st R V 1 (fn_st R V 2 (fn_st R V 3 (fn_st R V 4 (fn_st R V 5 (fn_st R V 6 (fn_st R V 7 p))))))) = _
  rw [fn_st_z V (h 7 (by omega)), fn_st_z V (h 6 (by omega)), fn_st_z V (h 5 (by omega)), fn_st_z V (h 4 (by omega)), fn_st_z V (h 3 (by omega))]
  rfl
theorem fn_red_1 (R V : Nat → Nat) (p : Nat × Nat) : (fn_red R V p).1 = fn_r3 (R 0) (R 1) (R 2) p.1 := by
  unfold fn_red fn_r3
  rw [fn_st_1, fn_st_1, fn_st_1]
/-- a message fits the rows -/
def fn_fr (R V : Nat → Nat) (m : Nat) : Prop := ∀ j, j < 3 → R j ≠ 0 → fn_sm m (R j) = V j
theorem fn_st_fr {R V : Nat → Nat} {m i : Nat} (h : fn_fr R V m) (hi : i < 3) (p : Nat × Nat) : fn_sm m (fn_st R V i p).1 ^^^ (fn_st R V i p).2 = fn_sm m p.1 ^^^ p.2 := by
  by_cases hc : p.1.testBit i = true ∧ R i ≠ 0
  · rw [fn_st_y V hc.1 hc.2]
    show fn_sm m (p.1 ^^^ R i) ^^^ (p.2 ^^^ V i) = _
    rw [fn_sm_s, h i hi hc.2, fn_x4]
  · unfold fn_st
    rw [if_neg hc]
theorem fn_red_fr {R V : Nat → Nat} {m : Nat} (h : fn_fr R V m) (p : Nat × Nat) : fn_sm m (fn_red R V p).1 ^^^ (fn_red R V p).2 = fn_sm m p.1 ^^^ p.2 := by
  unfold fn_red
  rw [fn_st_fr h (by omega), fn_st_fr h (by omega), fn_st_fr h (by omega)]
theorem fn_st_v {R V : Nat → Nat} {i : Nat} (hV : ∀ j, V j < 8) {p : Nat × Nat} (h : p.2 < 8) : (fn_st R V i p).2 < 8 := by
  unfold fn_st
  split
  · exact fn_x8 h (hV i)
  · exact h
theorem fn_red_v {R V : Nat → Nat} (hV : ∀ j, V j < 8) {p : Nat × Nat} (h : p.2 < 8) : (fn_red R V p).2 < 8 := fn_st_v hV (fn_st_v hV (fn_st_v hV h))
/-- reduced echelon rows over three pieces -/
def fn_sh (a b c : Nat) : Bool := decide (a < 2) && decide (b < 4) && decide (c < 8) && (b == 0 || b == 2 || (b == 3 && a == 0)) && (c == 0 || (decide (4 ≤ c) && (c / 2 % 2 == 0 || b == 0) && (c % 2 == 0 || a == 0)))
def fn_c1 (a : Nat) : Nat := if a = 0 then 0 else 1
def fn_cn (a b c : Nat) : Nat := fn_c1 a + fn_c1 b + fn_c1 c
theorem fn_sh_lt {a b c : Nat} (h : fn_sh a b c = true) : a < 2 ∧ b < 4 ∧ c < 8 := by
  unfold fn_sh at h
  simp only [Bool.and_eq_true, decide_eq_true_eq] at h
  exact ⟨h.1.1.1.1, h.1.1.1.2, h.1.1.2⟩
def fn_sp (e : Nat) : Nat := e % 2 + 8 * (e / 2 % 2) + 64 * (e / 4)
/-- all, some below n, as a Boolean -/
def fn_al : Nat → (Nat → Bool) → Bool
  | 0, _ => true
  | n + 1, p => p n && fn_al n p
def fn_ex : Nat → (Nat → Bool) → Bool
  | 0, _ => false
  | n + 1, p => p n || fn_ex n p
theorem fn_al_h {p : Nat → Bool} : ∀ {n : Nat}, fn_al n p = true → ∀ i, i < n → p i = true := by
  intro n
  induction n with
  | zero => exact fun _ i hi => absurd hi (by omega)
  | succ n ih =>
    intro h i hi
    have h' : (p n && fn_al n p) = true := h
    rw [Bool.and_eq_true] at h'
    by_cases e : i = n
    · rw [e]
      exact h'.1
    · exact ih h'.2 i (by omega)
theorem fn_al_i {p : Nat → Bool} : ∀ {n : Nat}, (∀ i, i < n → p i = true) → fn_al n p = true := by
  intro n
  induction n with
  | zero => exact fun _ => rfl
  | succ n ih =>
    intro h
    show (p n && fn_al n p) = true
    rw [h n (by omega), ih (fun i hi => h i (by omega))]
    rfl
theorem fn_ex_h {p : Nat → Bool} : ∀ {n : Nat}, fn_ex n p = true → ∃ i, i < n ∧ p i = true := by
  intro n
  induction n with
  | zero => exact fun h => absurd (show false = true from h) (by decide)
  | succ n ih =>
    intro h
    have h' : (p n || fn_ex n p) = true := h
    rw [Bool.or_eq_true] at h'
    rcases h' with h' | h'
    · exact ⟨n, by omega, h'⟩
    · obtain ⟨i, hi, z⟩ := ih h'
      exact ⟨i, by omega, z⟩
theorem fn_im {x y : Bool} (h : (!x || y) = true) (hx : x = true) : y = true := by
  rw [hx] at h
  exact h
def fn_s3 (p : Nat → Nat → Nat → Bool) : Bool := fn_al 2 fun a => fn_al 4 fun b => fn_al 8 fun c => !fn_sh a b c || p a b c
theorem fn_s3_h {p : Nat → Nat → Nat → Bool} (h : fn_s3 p = true) {a b c : Nat} (hs : fn_sh a b c = true) : p a b c = true := by
  obtain ⟨ha, hb, hc⟩ := fn_sh_lt hs
  exact fn_im (fn_al_h (fn_al_h (fn_al_h h a ha) b hb) c hc) hs
def fn_T1 (a b c : Nat) : Bool := fn_al 16 fun s => decide (fn_r3 a b c s < 16) && decide (s < 8 → fn_r3 a b c s < 8) && decide (8 ≤ s → fn_r3 a b c s ≠ 0)
theorem fn_D1 : fn_s3 fn_T1 = true := by decide +kernel
theorem fn_F1 (a : Nat) (_ : a < 2) (b : Nat) (_ : b < 4) (c : Nat) (_ : c < 8) (h : fn_sh a b c = true) (s : Nat) (hs : s < 16) : fn_r3 a b c s < 16 ∧ (s < 8 → fn_r3 a b c s < 8) ∧ (8 ≤ s → fn_r3 a b c s ≠ 0) := by
  have t := fn_al_h (fn_s3_h fn_D1 h) s hs
  rw [Bool.and_eq_true, Bool.and_eq_true, decide_eq_true_eq, decide_eq_true_eq, decide_eq_true_eq] at t
  exact ⟨t.1.1, t.1.2, t.2⟩
def fn_T2 (a b c : Nat) : Bool := fn_al 8 fun s => fn_r3 a b c s == 0 || fn_ex 8 fun e => fn_al 8 fun w => decide (w * fn_sp e < 512) && decide (fn_sm (w * fn_sp e) a = 0) && decide (fn_sm (w * fn_sp e) b = 0) && decide (fn_sm (w * fn_sp e) c = 0) && decide (fn_sm (w * fn_sp e) s = w)
theorem fn_D2 : fn_s3 fn_T2 = true := by decide +kernel
theorem fn_F2 (a : Nat) (_ : a < 2) (b : Nat) (_ : b < 4) (c : Nat) (_ : c < 8) (h : fn_sh a b c = true) (s : Nat) (hs : s < 8) (hr : fn_r3 a b c s ≠ 0) : ∃ e, e < 8 ∧ ∀ w, w < 8 → (w * fn_sp e < 512 ∧ fn_sm (w * fn_sp e) a = 0 ∧ fn_sm (w * fn_sp e) b = 0 ∧ fn_sm (w * fn_sp e) c = 0 ∧ fn_sm (w * fn_sp e) s = w) := by
  have t := fn_al_h (fn_s3_h fn_D2 h) s hs
  rw [Bool.or_eq_true, beq_iff_eq] at t
  rcases t with t | t
  · exact absurd t hr
  · obtain ⟨e, he, t⟩ := fn_ex_h t
    refine ⟨e, he, fun w hw => ?_⟩
    have u := fn_al_h t w hw
    rw [Bool.and_eq_true, Bool.and_eq_true, Bool.and_eq_true, Bool.and_eq_true, decide_eq_true_eq, decide_eq_true_eq, decide_eq_true_eq, decide_eq_true_eq, decide_eq_true_eq] at u
    exact ⟨u.1.1.1.1, u.1.1.1.2, u.1.1.2, u.1.2, u.2⟩
def fn_ld (l : Nat) : Nat := if l.testBit 2 = true then 2 else if l.testBit 1 = true then 1 else 0
def fn_nr (i l r : Nat) : Nat := if r.testBit i = true then r ^^^ l else r
def fn_nw (i l r j : Nat) : Nat := if j = i then l else fn_nr i l r
def fn_U3 (a b c l i : Nat) : Bool := fn_sh (fn_nw i l a 0) (fn_nw i l b 1) (fn_nw i l c 2)
  && decide (fn_cn (fn_nw i l a 0) (fn_nw i l b 1) (fn_nw i l c 2) = fn_cn a b c + 1)
  && decide (i = 0 → a = 0) && decide (i = 1 → b = 0) && decide (i = 2 → c = 0)
  && decide (a ≠ 0 → fn_nw i l a 0 ≠ 0) && decide (b ≠ 0 → fn_nw i l b 1 ≠ 0) && decide (c ≠ 0 → fn_nw i l c 2 ≠ 0) && decide (i < 3)
def fn_T3 (a b c : Nat) : Bool := fn_al 8 fun s => fn_r3 a b c s == 0 || fn_U3 a b c (fn_r3 a b c s) (fn_ld (fn_r3 a b c s))
theorem fn_D3 : fn_s3 fn_T3 = true := by decide +kernel
theorem fn_F3 (a : Nat) (_ : a < 2) (b : Nat) (_ : b < 4) (c : Nat) (_ : c < 8) (h : fn_sh a b c = true) (s : Nat) (hs : s < 8) (hr : fn_r3 a b c s ≠ 0) :
    (fn_sh (fn_nw (fn_ld (fn_r3 a b c s)) (fn_r3 a b c s) a 0) (fn_nw (fn_ld (fn_r3 a b c s)) (fn_r3 a b c s) b 1) (fn_nw (fn_ld (fn_r3 a b c s)) (fn_r3 a b c s) c 2) = true
    ∧ fn_cn (fn_nw (fn_ld (fn_r3 a b c s)) (fn_r3 a b c s) a 0) (fn_nw (fn_ld (fn_r3 a b c s)) (fn_r3 a b c s) b 1) (fn_nw (fn_ld (fn_r3 a b c s)) (fn_r3 a b c s) c 2) = fn_cn a b c + 1
    ∧ (fn_ld (fn_r3 a b c s) = 0 → a = 0) ∧ (fn_ld (fn_r3 a b c s) = 1 → b = 0) ∧ (fn_ld (fn_r3 a b c s) = 2 → c = 0)
    ∧ (a ≠ 0 → fn_nw (fn_ld (fn_r3 a b c s)) (fn_r3 a b c s) a 0 ≠ 0) ∧ (b ≠ 0 → fn_nw (fn_ld (fn_r3 a b c s)) (fn_r3 a b c s) b 1 ≠ 0) ∧ (c ≠ 0 → fn_nw (fn_ld (fn_r3 a b c s)) (fn_r3 a b c s) c 2 ≠ 0)
    ∧ fn_ld (fn_r3 a b c s) < 3) := by
  have t := fn_al_h (fn_s3_h fn_D3 h) s hs
  rw [Bool.or_eq_true, beq_iff_eq] at t
  rcases t with t | t
  · exact absurd t hr
  · unfold fn_U3 at t
    simp only [Bool.and_eq_true, decide_eq_true_eq] at t
    exact ⟨t.1.1.1.1.1.1.1.1, t.1.1.1.1.1.1.1.2, t.1.1.1.1.1.1.2, t.1.1.1.1.1.2, t.1.1.1.1.2, t.1.1.1.2, t.1.1.2, t.1.2, t.2⟩
def fn_T4 (a b c a' b' c' : Nat) : Bool := !(fn_al 8 fun t => !(fn_r3 a' b' c' t == 0) || fn_r3 a b c t == 0) || ((fn_cn a' b' c' == fn_cn a b c) == fn_al 8 fun t => ((fn_r3 a b c t == 0) == (fn_r3 a' b' c' t == 0)))
theorem fn_D4 : (fn_s3 fun a b c => fn_s3 (fn_T4 a b c)) = true := by decide +kernel
theorem fn_F4 {a b c : Nat} (h : fn_sh a b c = true) {a' b' c' : Nat} (h' : fn_sh a' b' c' = true)
    (hi : ∀ t, t < 8 → fn_r3 a' b' c' t = 0 → fn_r3 a b c t = 0) : fn_cn a' b' c' = fn_cn a b c ↔ ∀ t, t < 8 → (fn_r3 a b c t = 0 ↔ fn_r3 a' b' c' t = 0) := by
  have t := fn_im (fn_s3_h (fn_s3_h fn_D4 h) h') (fn_al_i (fun i hl => by
    by_cases z : fn_r3 a' b' c' i = 0
    · rw [z, hi i hl z]
      rfl
    · rw [beq_false_of_ne z]
      rfl))
  rw [beq_iff_eq] at t
  have q : ∀ x y : Nat, ((x == 0) == (y == 0)) = true ↔ (x = 0 ↔ y = 0) := by
    intro x y
    rw [beq_iff_eq, Bool.eq_iff_iff, beq_iff_eq, beq_iff_eq]
  rw [← beq_iff_eq (a := fn_cn a' b' c'), t]
  exact ⟨fun z i hl => (q _ _).mp (fn_al_h z i hl), fun z => fn_al_i (fun i hl => (q _ _).mpr (z i hl))⟩
theorem fn_F5 : ∀ a, a < 2 → ∀ b, b < 4 → ∀ c, c < 8 → fn_sh a b c = true → (fn_r3 a b c 1 = 0 ↔ a = 1) := by decide +kernel
theorem fn_F6 : ∀ a, a < 2 → ∀ b, b < 4 → ∀ c, c < 8 → fn_cn a b c < 4 := by decide +kernel
/-- rows: zero above the third, values below 8, reduced -/
def fn_ok (R V : Nat → Nat) : Prop := (∀ j, 3 ≤ j → R j = 0) ∧ (∀ j, V j < 8) ∧ fn_sh (R 0) (R 1) (R 2) = true
theorem fn_ok_lt {R V : Nat → Nat} (h : fn_ok R V) (j : Nat) : R j < 8 := by
  have t := fn_sh_lt h.2.2
  rcases Nat.lt_or_ge j 3 with z | z
  · match j, z with
    | 0, _ => omega
    | 1, _ => omega
    | 2, _ => omega
  · rw [h.1 j z]
    omega
theorem fn_red_lt {R V : Nat → Nat} (h : fn_ok R V) {s v : Nat} (hs : s < 8) : (fn_red R V (s, v)).1 < 8 := by
  obtain ⟨ha, hb, hc⟩ := fn_sh_lt h.2.2
  rw [fn_red_1]
  exact (fn_F1 _ ha _ hb _ hc h.2.2 s (by omega)).2.1 hs
theorem fn_red_16 {R V : Nat → Nat} (h : fn_ok R V) {s v : Nat} (hs : s < 16) (h8 : 8 ≤ s) : (fn_red R V (s, v)).1 < 16 ∧ (fn_red R V (s, v)).1 ≠ 0 := by
  obtain ⟨ha, hb, hc⟩ := fn_sh_lt h.2.2
  rw [fn_red_1]
  exact ⟨(fn_F1 _ ha _ hb _ hc h.2.2 s hs).1, (fn_F1 _ ha _ hb _ hc h.2.2 s hs).2.2 h8⟩
/-- a set that isn't led away may have any value -/
theorem fn_any {R V : Nat → Nat} (h : fn_ok R V) {m s w : Nat} (hm : m < 512) (hf : fn_fr R V m) (hs : s < 8) (hr : fn_r3 (R 0) (R 1) (R 2) s ≠ 0) (hw : w < 8) : ∃ m', m' < 512 ∧ fn_fr R V m' ∧ fn_sm m' s = w := by
  obtain ⟨ha, hb, hc⟩ := fn_sh_lt h.2.2
  obtain ⟨e, he, H⟩ := fn_F2 _ ha _ hb _ hc h.2.2 s hs hr
  obtain ⟨h0, h1, h2, h3, h4⟩ := H (fn_sm m s ^^^ w) (fn_x8 (fn_sm_lt hm s) hw)
  generalize (fn_sm m s ^^^ w) * fn_sp e = d at h0 h1 h2 h3 h4
  refine ⟨m ^^^ d, fn_x512 hm h0, fun j hj hn => ?_, ?_⟩
  · rw [fn_sm_m, hf j hj hn]
    have t : fn_sm d (R j) = 0 := by
      match j, hj with
      | 0, _ => exact h1
      | 1, _ => exact h2
      | 2, _ => exact h3
    rw [t, Nat.xor_zero]
  · rw [fn_sm_m, h4, ← Nat.xor_assoc, Nat.xor_self, Nat.zero_xor]
/-- a set that is led away has one value -/
theorem fn_one {R V : Nat → Nat} {m s v : Nat} (hf : fn_fr R V m) (hr : (fn_red R V (s, v)).1 = 0) : fn_sm m s = v ^^^ (fn_red R V (s, v)).2 := by
  have t := fn_red_fr hf (s, v)
  rw [hr, fn_sm_0, Nat.zero_xor] at t
  show fn_sm m s = v ^^^ (fn_red R V (s, v)).2
  rw [t]
  show fn_sm m s = v ^^^ (fn_sm m s ^^^ v)
  rw [Nat.xor_comm v, fn_xk]
/-- the rows behind include -/
def fn_R' (R : Nat → Nat) (i l : Nat) : Nat → Nat := fun j => fn_nw i l (R j) j
def fn_V' (R V : Nat → Nat) (i lv : Nat) : Nat → Nat := fun j => if j = i then lv else if (R j).testBit i = true then V j ^^^ lv else V j
theorem fn_nw_0 {i l j : Nat} (h : j ≠ i) : fn_nw i l 0 j = 0 := by
  unfold fn_nw fn_nr
  rw [if_neg h, if_neg (by rw [Nat.zero_testBit]; decide)]
theorem fn_inc_m {R V : Nat → Nat} {i l lv m : Nat} (hi : i < 3) (h0 : R i = 0) (hl : l ≠ 0) (hn : ∀ j, j < 3 → R j ≠ 0 → fn_R' R i l j ≠ 0) : fn_fr (fn_R' R i l) (fn_V' R V i lv) m ↔ fn_fr R V m ∧ fn_sm m l = lv := by
  have ei : fn_R' R i l i = l := by
    show fn_nw i l (R i) i = l
    unfold fn_nw
    rw [if_pos rfl]
  have vi : fn_V' R V i lv i = lv := by
    unfold fn_V'
    rw [if_pos rfl]
  have key : ∀ j, j ≠ i → fn_sm m l = lv → (fn_sm m (fn_R' R i l j) = fn_V' R V i lv j ↔ fn_sm m (R j) = V j) := by
    intro j hj hm
    show fn_sm m (fn_nw i l (R j) j) = _ ↔ _
    unfold fn_nw fn_nr fn_V'
    rw [if_neg hj, if_neg hj]
    by_cases hb : (R j).testBit i = true
    · rw [if_pos hb, if_pos hb, fn_sm_s, hm]
      exact ⟨fn_xc, fun z => by rw [z]⟩
    · rw [if_neg hb, if_neg hb]
  constructor
  · intro h
    have hm : fn_sm m l = lv := by
      have t := h i hi (by rw [ei]; exact hl)
      rw [ei, vi] at t
      exact t
    refine ⟨fun j hj hr => ?_, hm⟩
    have hji : j ≠ i := fun z => hr (z ▸ h0)
    exact (key j hji hm).mp (h j hj (hn j hj hr))
  · intro h j hj hr
    by_cases hji : j = i
    · rw [hji, ei, vi]
      exact h.2
    · refine (key j hji h.2).mpr (h.1 j hj (fun z => hr ?_))
      show fn_nw i l (R j) j = 0
      rw [z]
      exact fn_nw_0 hji
/-- include on rows: what is left of (s, v) becomes a row -/
theorem fn_inc {R V : Nat → Nat} (h : fn_ok R V) {s v : Nat} (hs : s < 8) (hv : v < 8) (hl : (fn_red R V (s, v)).1 ≠ 0) :
    fn_ok (fn_R' R (fn_ld (fn_red R V (s, v)).1) (fn_red R V (s, v)).1) (fn_V' R V (fn_ld (fn_red R V (s, v)).1) (fn_red R V (s, v)).2)
    ∧ fn_cn (fn_R' R (fn_ld (fn_red R V (s, v)).1) (fn_red R V (s, v)).1 0) (fn_R' R (fn_ld (fn_red R V (s, v)).1) (fn_red R V (s, v)).1 1) (fn_R' R (fn_ld (fn_red R V (s, v)).1) (fn_red R V (s, v)).1 2) = fn_cn (R 0) (R 1) (R 2) + 1
    ∧ fn_ld (fn_red R V (s, v)).1 < 3
    ∧ ∀ m, fn_fr (fn_R' R (fn_ld (fn_red R V (s, v)).1) (fn_red R V (s, v)).1) (fn_V' R V (fn_ld (fn_red R V (s, v)).1) (fn_red R V (s, v)).2) m ↔ fn_fr R V m ∧ fn_sm m s = v := by
  have hfr : ∀ m, fn_fr R V m → (fn_sm m (fn_red R V (s, v)).1 = (fn_red R V (s, v)).2 ↔ fn_sm m s = v) := fun m hm => fn_xe (fn_red_fr hm (s, v))
  have hlv : (fn_red R V (s, v)).2 < 8 := fn_red_v h.2.1 hv
  obtain ⟨ha, hb, hc⟩ := fn_sh_lt h.2.2
  have e1 : (fn_red R V (s, v)).1 = fn_r3 (R 0) (R 1) (R 2) s := fn_red_1 R V (s, v)
  have F := fn_F3 _ ha _ hb _ hc h.2.2 s hs (by rw [← e1]; exact hl)
  rw [← e1] at F
  generalize (fn_red R V (s, v)).1 = l at *
  generalize (fn_red R V (s, v)).2 = lv at *
  obtain ⟨f1, f2, f3, f4, f5, f6, f7, f8, f9⟩ := F
  generalize fn_ld l = i at *
  have hRi : R i = 0 := by
    match i, f9 with
    | 0, _ => exact f3 rfl
    | 1, _ => exact f4 rfl
    | 2, _ => exact f5 rfl
  have hnz : ∀ j, j < 3 → R j ≠ 0 → fn_R' R i l j ≠ 0 := by
    intro j hj
    match j, hj with
    | 0, _ => exact f6
    | 1, _ => exact f7
    | 2, _ => exact f8
  refine ⟨⟨fun j hj => ?_, fun j => ?_, f1⟩, f2, f9, fun m => ?_⟩
  · show fn_nw i l (R j) j = 0
    rw [h.1 j hj]
    exact fn_nw_0 (by omega)
  · unfold fn_V'
    split
    · exact hlv
    · split
      · exact fn_x8 (h.2.1 j) hlv
      · exact h.2.1 j
  · rw [fn_inc_m f9 hRi hl hnz]
    exact ⟨fun z => ⟨z.1, (hfr m z.1).mp z.2⟩, fun z => ⟨z.1, (hfr m z.1).mpr z.2⟩⟩
/-- what the messages that fit say about a set -/
def fn_kn (Q : Nat → Prop) (t : Nat) (r : Int32) : Prop := (∃ w, w < 8 ∧ r = nI w ∧ ∀ m, m < 512 → Q m → fn_sm m t = w) ∨ (r = -1 ∧ ∃ m m', m < 512 ∧ m' < 512 ∧ Q m ∧ Q m' ∧ fn_sm m t ≠ fn_sm m' t)
theorem fn_kn_u {Q : Nat → Prop} {t : Nat} {r r' : Int32} (ne : ∃ m, m < 512 ∧ Q m) (h : fn_kn Q t r) (h' : fn_kn Q t r') : r = r' := by
  obtain ⟨m, hm, hq⟩ := ne
  rcases h with ⟨w, _, e, h⟩ | ⟨e, a, b, ha, hb, qa, qb, h⟩
  · rcases h' with ⟨w', _, e', h'⟩ | ⟨e', a, b, ha, hb, qa, qb, h'⟩
    · rw [e, e', ← h m hm hq, ← h' m hm hq]
    · exact absurd ((h a ha qa).trans (h b hb qb).symm) h'
  · rcases h' with ⟨w', _, e', h'⟩ | ⟨e', _⟩
    · exact absurd ((h' a ha qa).trans (h' b hb qb).symm) h
    · rw [e, e']
theorem fn_kn_c {Q Q' : Nat → Prop} (hQ : ∀ m, m < 512 → (Q m ↔ Q' m)) {t : Nat} {r : Int32} (h : fn_kn Q t r) : fn_kn Q' t r := by
  rcases h with ⟨w, hw, e, h⟩ | ⟨e, a, b, ha, hb, qa, qb, h⟩
  · exact Or.inl ⟨w, hw, e, fun m hm q => h m hm ((hQ m hm).mpr q)⟩
  · exact Or.inr ⟨e, a, b, ha, hb, (hQ a ha).mp qa, (hQ b hb).mp qb, h⟩
theorem fn_kn_neg {Q : Nat → Prop} {t : Nat} {r : Int32} (h : fn_kn Q t r) : r < 0 ↔ ∃ m m', m < 512 ∧ m' < 512 ∧ Q m ∧ Q m' ∧ fn_sm m t ≠ fn_sm m' t := by
  rcases h with ⟨w, hw, e, h⟩ | ⟨e, h⟩
  · constructor
    · intro z
      rw [e] at z
      exact absurd z (nI_pos (by omega))
    · intro ⟨a, b, ha, hb, qa, qb, z⟩
      exact absurd ((h a ha qa).trans (h b hb qb).symm) z
  · exact ⟨fun _ => h, fun _ => by rw [e]; decide⟩
/-- rows that say what Q says -/
def fn_rq (R V : Nat → Nat) (Q : Nat → Prop) : Prop := fn_ok R V ∧ ∀ m, m < 512 → (fn_fr R V m ↔ Q m)
theorem fn_rq_kn {R V : Nat → Nat} {Q : Nat → Prop} (h : fn_rq R V Q) (ne : ∃ m, m < 512 ∧ Q m) {t : Nat} (ht : t < 8) : fn_kn Q t (if (fn_red R V (t, 0)).1 = 0 then nI (fn_red R V (t, 0)).2 else -1) := by
  obtain ⟨m0, hm0, hq0⟩ := ne
  by_cases z : (fn_red R V (t, 0)).1 = 0
  · rw [if_pos z]
    refine Or.inl ⟨_, fn_red_v h.1.2.1 (show (0 : Nat) < 8 by omega), rfl, fun m hm q => ?_⟩
    have e := fn_one ((h.2 m hm).mpr q) z
    rw [Nat.zero_xor] at e
    exact e
  · rw [if_neg z]
    have z' : fn_r3 (R 0) (R 1) (R 2) t ≠ 0 := by
      rw [fn_red_1] at z
      exact z
    have hf := (h.2 m0 hm0).mpr hq0
    obtain ⟨a, ha, fa, ea⟩ := fn_any h.1 hm0 hf ht z' (show (0 : Nat) < 8 by omega)
    obtain ⟨b, hb, fb, eb⟩ := fn_any h.1 hm0 hf ht z' (show (1 : Nat) < 8 by omega)
    exact Or.inr ⟨rfl, a, b, ha, hb, (h.2 a ha).mp fa, (h.2 b hb).mp fb, by rw [ea, eb]; decide⟩
theorem fn_rq_neg {R V : Nat → Nat} {Q : Nat → Prop} (h : fn_rq R V Q) (ne : ∃ m, m < 512 ∧ Q m) {t : Nat} (ht : t < 8) {r : Int32} (hr : fn_kn Q t r) : ¬ r < 0 ↔ fn_r3 (R 0) (R 1) (R 2) t = 0 := by
  rw [fn_kn_u ne hr (fn_rq_kn h ne ht)]
  rw [show fn_r3 (R 0) (R 1) (R 2) t = (fn_red R V (t, 0)).1 from (fn_red_1 R V (t, 0)).symm]
  by_cases z : (fn_red R V (t, 0)).1 = 0
  · rw [if_pos z]
    have b : (fn_red R V (t, 0)).2 < 8 := fn_red_v h.1.2.1 (show (0 : Nat) < 8 by omega)
    exact ⟨fun _ => z, fun _ => nI_pos (by omega)⟩
  · rw [if_neg z]
    exact ⟨fun y => absurd (by decide) y, fun y => absurd y z⟩
/-- the ranks of two systems, the one within the other -/
theorem fn_rank {R V R2 V2 : Nat → Nat} {Q Q2 : Nat → Prop} (h : fn_rq R V Q) (h2 : fn_rq R2 V2 Q2) (ne : ∃ m, m < 512 ∧ Q m) (sub : ∀ m, Q m → Q2 m) :
    fn_cn (R2 0) (R2 1) (R2 2) = fn_cn (R 0) (R 1) (R 2) ↔ ∀ t, t < 8 → ∀ r r2, fn_kn Q t r → fn_kn Q2 t r2 → (r < 0 ↔ r2 < 0) := by
  obtain ⟨ha, hb, hc⟩ := fn_sh_lt h.1.2.2
  obtain ⟨ha2, hb2, hc2⟩ := fn_sh_lt h2.1.2.2
  have ne2 : ∃ m, m < 512 ∧ Q2 m := by
    obtain ⟨m, hm, q⟩ := ne
    exact ⟨m, hm, sub m q⟩
  have E : ∀ t, t < 8 → ∀ r r2, fn_kn Q t r → fn_kn Q2 t r2 → ((r < 0 ↔ r2 < 0) ↔ (fn_r3 (R 0) (R 1) (R 2) t = 0 ↔ fn_r3 (R2 0) (R2 1) (R2 2) t = 0)) := by
    intro t ht r r2 k k2
    rw [← fn_rq_neg h ne ht k, ← fn_rq_neg h2 ne2 ht k2]
    exact ⟨fun z => not_congr z, fun z => Decidable.not_iff_not.mp z⟩
  rw [fn_F4 h.1.2.2 h2.1.2.2 (fun t ht z => by
    have k := fn_rq_kn h ne ht
    have k2 := fn_rq_kn h2 ne2 ht
    rw [← fn_rq_neg h2 ne2 ht k2, fn_kn_neg k2] at z
    rw [← fn_rq_neg h ne ht k, fn_kn_neg k]
    exact fun ⟨a, b, ha, hb, qa, qb, y⟩ => z ⟨a, b, ha, hb, sub a qa, sub b qb, y⟩)]
  constructor
  · intro z t ht r r2 k k2
    exact (E t ht r r2 k k2).mpr (z t ht)
  · intro z t ht
    exact (E t ht _ _ (fn_rq_kn h ne ht) (fn_rq_kn h2 ne2 ht)).mp (z t ht _ _ (fn_rq_kn h ne ht) (fn_rq_kn h2 ne2 ht))
end
section
/-! ===== 02: ints: bits of an int, cells of the row ===== -/
theorem fn_xor (a b : Nat) : nI a ^^^ nI b = nI (a ^^^ b) := by
  apply Int32.toBitVec_inj.1
  show BitVec.ofNat 32 a ^^^ BitVec.ofNat 32 b = BitVec.ofNat 32 (a ^^^ b)
  apply BitVec.eq_of_getLsbD_eq
  intro i hi
  simp [hi]
theorem fn_and (a b : Nat) : nI a &&& nI b = nI (a &&& b) := by
  apply Int32.toBitVec_inj.1
  show BitVec.ofNat 32 a &&& BitVec.ofNat 32 b = BitVec.ofNat 32 (a &&& b)
  apply BitVec.eq_of_getLsbD_eq
  intro i hi
  simp [hi]
theorem fn_or (a b : Nat) : nI a ||| nI b = nI (a ||| b) := by
  apply Int32.toBitVec_inj.1
  show BitVec.ofNat 32 a ||| BitVec.ofNat 32 b = BitVec.ofNat 32 (a ||| b)
  apply BitVec.eq_of_getLsbD_eq
  intro i hi
  simp [hi]
theorem fn_s5 : ∀ n, n < 32 → ((nI n &&& 31).toBitVec.smod 32).toNat = n := by decide +kernel
theorem fn_bit {n i : Nat} (hn : n < 2 ^ 31) (hi : i < 32) : ((nI n >>> (nI i &&& 31)) &&& 1) = 0 ↔ n.testBit i = false := by
  rw [pk_shrN hn _ i (fn_s5 i hi)]
  have hd : n / 2 ^ i ≤ n := Nat.div_le_self _ _
  rw [pk_andN (show n / 2 ^ i < 2 ^ 32 by omega) (m := 1) 1 (by decide), ← nI_0, nI_eq (by omega) (by omega), Nat.testBit_eq_decide_div_mod_eq, decide_eq_false_iff_not]
  generalize n / 2 ^ i = z
  omega
theorem fn_16 : ∀ n, n < 64 → (nI n).toInt16.toInt32 = nI n := by decide +kernel
theorem fn_1s : ∀ k, k < 10 → (1 : Int32) <<< (nI k &&& 31) = nI (2 ^ k) := by decide +kernel
theorem fn_ns : ∀ k, k < 10 → ((1 : Int32) <<< (nI k &&& 31)) ^^^ (-1) = nI (4294967295 - 2 ^ k) := by decide +kernel
theorem fn_nb : ∀ k, k < 10 → ∀ j, j < 10 → (4294967295 - 2 ^ k).testBit j = !decide (j = k) := by decide +kernel
theorem fn_t1 : ∀ s, s < 8 → ((nI s &&& 1) = 1 ↔ s.testBit 0 = true) := by decide +kernel
theorem fn_t2 : ∀ s, s < 8 → ((nI s &&& 2) = 2 ↔ s.testBit 1 = true) := by decide +kernel
theorem fn_t4 : ∀ s, s < 8 → ((nI s &&& 4) = 4 ↔ s.testBit 2 = true) := by decide +kernel
theorem fn_c8 : ∀ c, c < 64 → (nI c &&& 7 = nI (c % 8) ∧ nI c >>> ((3 : Int32) &&& 31) = nI (c / 8)) := by decide +kernel
theorem fn_ce : ∀ s, s < 8 → ∀ v, v < 8 → nI s ||| (nI v <<< ((3 : Int32) &&& 31)) = nI (s + 8 * v) := by decide +kernel
/-- the cells of the law's long -/
def fn_Ro (x : Int64) (c : Nat → Nat) : Prop := ∀ k, k < 10 → ∀ i, i < 6 → x.toBitVec.getLsbD (6 * k + i) = (c k).testBit i
theorem fn_sa : ∀ k, k < 10 → (((6 : Int32) * nI k).toInt64 &&& 63).toBitVec.smod 64 = BitVec.ofNat 64 (6 * k) := by decide +kernel
theorem fn_sn : ∀ k, k < 10 → (BitVec.ofNat 64 (6 * k)).toNat = 6 * k := by decide +kernel
theorem fn_63 : ∀ i, i < 32 → (63 : Int32).toBitVec.getLsbD i = decide (i < 6) := by decide +kernel
theorem fn_63L : ∀ i, i < 64 → (63 : Int64).toBitVec.getLsbD i = decide (i < 6) := by decide +kernel
theorem fn_m1L : ∀ i, i < 64 → (-1 : Int64).toBitVec.getLsbD i = true := by decide +kernel
theorem fn_tb6 {c i : Nat} (hc : c < 64) (hi : 6 ≤ i) : c.testBit i = false := by
  apply Nat.testBit_lt_two_pow
  have t : 2 ^ 6 ≤ 2 ^ i := Nat.pow_le_pow_right (by decide) hi
  omega
theorem fn_nIb (n : Nat) {i : Nat} (hi : i < 32) : (nI n).toBitVec.getLsbD i = n.testBit i := by
  show (BitVec.ofNat 32 n).getLsbD i = _
  rw [BitVec.getLsbD_ofNat, decide_eq_true hi, Bool.true_and]
theorem fn_lNb (n : Nat) {i : Nat} (hi : i < 64) : (lN n).toBitVec.getLsbD i = n.testBit i := by
  show (BitVec.ofNat 64 n).getLsbD i = _
  rw [BitVec.getLsbD_ofNat, decide_eq_true hi, Bool.true_and]
theorem fn_dr {x : Int64} {c : Nat → Nat} {k : Nat} (h : fn_Ro x c) (hk : k < 10) (hc : c k < 64) : ((x >>> (((6 : Int32) * nI k).toInt64 &&& 63)).toInt32 &&& 63) = nI (c k) := by
  apply Int32.toBitVec_inj.mp
  apply BitVec.eq_of_getLsbD_eq
  intro i hi
  rw [fn_nIb _ hi, Int32.toBitVec_and, BitVec.getLsbD_and, fn_63 i hi]
  rcases Nat.lt_or_ge i 6 with h6 | h6
  · rw [decide_eq_true h6, Bool.and_true, Int64.toBitVec_toInt32, BitVec.getLsbD_signExtend, if_pos (show i < 64 by omega), decide_eq_true hi, Bool.true_and, Int64.toBitVec_shiftRight, fn_sa k hk, BitVec.getLsbD_sshiftRight', fn_sn k hk, if_pos (show 6 * k + i < 64 by omega), h k hk i h6, decide_eq_false (show ¬ 64 ≤ i by omega), Bool.not_false, Bool.true_and]
  · rw [decide_eq_false (show ¬ i < 6 by omega), Bool.and_false, fn_tb6 hc h6]
def fn_up (c : Nat → Nat) (k z : Nat) : Nat → Nat := fun j => if j = k then z else c j
theorem fn_up_s (c : Nat → Nat) (k z : Nat) : fn_up c k z k = z := if_pos rfl
theorem fn_up_n (c : Nat → Nat) {k j : Nat} (z : Nat) (h : j ≠ k) : fn_up c k z j = c j := if_neg h
theorem fn_up_0 {c : Nat → Nat} {k : Nat} (h : c k = 0) : fn_up c k 0 = c := by
  funext j
  by_cases e : j = k
  · rw [e, fn_up_s, h]
  · rw [fn_up_n c 0 e]
theorem fn_shb {x : Int64} {k : Nat} (hk : k < 10) {j : Nat} (hj : j < 64) : (x <<< (((6 : Int32) * nI k).toInt64 &&& 63)).toBitVec.getLsbD j = (!decide (j < 6 * k) && x.toBitVec.getLsbD (j - 6 * k)) := by
  rw [Int64.toBitVec_shiftLeft, fn_sa k hk, BitVec.getLsbD_shiftLeft', fn_sn k hk, decide_eq_true hj, Bool.true_and]
theorem fn_put {x : Int64} {c : Nat → Nat} {k z : Nat} (h : fn_Ro x c) (hk : k < 10) (h0 : c k = 0) (hz : z < 64) : fn_Ro (x ||| ((nI z).toInt64 <<< (((6 : Int32) * nI k).toInt64 &&& 63))) (fn_up c k z) := by
  intro j hj i hi
  rw [Int64.toBitVec_or, BitVec.getLsbD_or, h j hj i hi, fn_shb hk (by omega), nI_l (by omega), fn_lNb _ (by omega)]
  by_cases e : j = k
  · rw [e, fn_up_s, h0, Nat.zero_testBit, Bool.false_or, decide_eq_false (by omega), Bool.not_false, Bool.true_and, show 6 * k + i - 6 * k = i by omega]
  · rw [fn_up_n c z e]
    rcases Nat.lt_or_ge j k with g | g
    · rw [decide_eq_true (show 6 * j + i < 6 * k by omega), Bool.not_true, Bool.false_and, Bool.or_false]
    · rw [fn_tb6 hz (show 6 ≤ 6 * j + i - 6 * k by omega), Bool.and_false, Bool.or_false]
theorem fn_clr {x : Int64} {c : Nat → Nat} {k : Nat} (h : fn_Ro x c) (hk : k < 10) : fn_Ro (x &&& (((63 : Int64) <<< (((6 : Int32) * nI k).toInt64 &&& 63)) ^^^ (-1))) (fn_up c k 0) := by
  intro j hj i hi
  rw [Int64.toBitVec_and, BitVec.getLsbD_and, h j hj i hi, Int64.toBitVec_xor, BitVec.getLsbD_xor, fn_m1L _ (by omega), fn_shb hk (by omega), fn_63L _ (by omega)]
  by_cases e : j = k
  · rw [e, fn_up_s, Nat.zero_testBit, decide_eq_false (show ¬ 6 * k + i < 6 * k by omega), decide_eq_true (show 6 * k + i - 6 * k < 6 by omega)]
    simp
  · rw [fn_up_n c 0 e]
    rcases Nat.lt_or_ge j k with g | g
    · rw [decide_eq_true (show 6 * j + i < 6 * k by omega)]
      simp
    · rw [decide_eq_false (show ¬ 6 * j + i - 6 * k < 6 by omega)]
      simp
theorem fn_Ro_0 : fn_Ro 0 (fun _ => 0) := by
  intro k _ i _
  rw [Nat.zero_testBit]
  exact BitVec.getLsbD_zero
end
section
/-! ===== 03: the law's own helpers: drop, sum, fits, known ===== -/
/-- cells c: the message m fits cell k if the mask M has it; fits all of them -/
def fn_F (c : Nat → Nat) (M m k : Nat) : Prop := c k ≠ 0 → M.testBit k = true → fn_sm m (c k % 8) = c k / 8
def fn_Q (c : Nat → Nat) (M m : Nat) : Prop := ∀ k, k < 10 → fn_F c M m k
def fn_B (c : Nat → Nat) : Prop := ∀ k, k < 10 → c k < 64
theorem fn_wdrop {post : Int32 → Prop} {x : Int64} {c : Nat → Nat} {k : Nat} (h : fn_Ro x c) (hb : fn_B c) (hk : k < 10) (H : post (nI (c k))) : wpL_drop post () x (nI k) := by
  unfold wpL_drop
  rw [fn_dr h hk (hb k hk)]
  exact H
theorem fn_w33 {post : Int32 → Prop} {m s : Nat} {x z : Int32} (hm : m < 512) (hs : s < 8) (H : post ((x ^^^ z) ^^^ nI (fn_sl (s.testBit 2) (m / 64)))) : wL_sum_33 post (nI m) (nI s) x z := by
  unfold wL_sum_33
  have e : nI m >>> ((6 : Int32) &&& 31) = nI (m / 64) := pk_shrN (by omega) _ 6 (by decide)
  refine ek_if (fn_t4 s hs) (fun h => nm_r e ?_) (fun h => ?_)
  · rw [h] at H
    exact H
  · rw [eq_false_of_ne_true h] at H
    exact H
theorem fn_w15 {post : Int32 → Prop} {m s : Nat} {z : Int32} (hm : m < 512) (hs : s < 8) (H : wL_sum_33 post (nI m) (nI s) z (nI (fn_sl (s.testBit 1) (m / 8 % 8)))) : wL_sum_15 post (nI m) (nI s) z := by
  unfold wL_sum_15
  have e : (nI m >>> ((3 : Int32) &&& 31)) &&& 7 = nI (m / 8 % 8) := by
    rw [show nI m >>> ((3 : Int32) &&& 31) = nI (m / 8) from pk_shrN (by omega) _ 3 (by decide)]
    exact pk_andN (by omega) 3 (by decide)
  rw [e]
  refine ek_if (fn_t2 s hs) (fun h => ?_) (fun h => ?_)
  · rw [h] at H
    exact H
  · rw [eq_false_of_ne_true h] at H
    exact H
theorem fn_sum {post : Int32 → Prop} {m s : Nat} (hm : m < 512) (hs : s < 8) (H : post (nI (fn_sm m s))) : wpL_sum post () (nI m) (nI s) := by
  have t : wL_sum_15 post (nI m) (nI s) (nI (fn_sl (s.testBit 0) (m % 8))) := fn_w15 hm hs (fn_w33 hm hs (by rw [fn_xor, fn_xor]; exact H))
  unfold wpL_sum
  have e : nI m &&& 7 = nI (m % 8) := pk_andN (by omega) 3 (by decide)
  rw [e]
  refine ek_if (fn_t1 s hs) (fun h => ?_) (fun h => ?_)
  · rw [h] at t
    exact t
  · rw [eq_false_of_ne_true h] at t
    exact t
theorem fn_fits {post : Int32 → Prop} {x : Int64} {c : Nat → Nat} {M m : Nat} (hr : fn_Ro x c) (hb : fn_B c) (hM : M < 2 ^ 31) (hm : m < 512) (H1 : fn_Q c M m → post 1) (H0 : ¬ fn_Q c M m → post 0) : wpL_fits post () x (nI M) (nI m) := by
  unfold wpL_fits
  refine pk_loop (fun n k s => wL_fits_6 post x (nI M) (nI m) n s (nI k)) (fun k s => (s = 1 ∧ ∀ j, j < k → fn_F c M m j) ∨ (s = 0 ∧ ¬ ∀ j, j < k → fn_F c M m j)) 10 0 1 (by omega) (Or.inl ⟨rfl, fun j h => absurd h (by omega)⟩) ?_ ?_
  · intro n s h
    refine pk_le 10 10 (fun _ => ?_) (fun z => absurd z (by omega))
    rcases h with ⟨rfl, h⟩ | ⟨rfl, h⟩
    · exact ⟨by rfl, H1 h⟩
    · exact ⟨by rfl, H0 h⟩
  · intro n k s hk h hw
    refine pk_le 10 k (fun z => absurd z (by omega)) (fun _ => fn_wdrop hr hb hk ?_)
    rcases h with ⟨rfl, h⟩ | ⟨rfl, h⟩
    · refine br_f (by decide) ?_
      have hc : c k < 64 := hb k hk
      have good : fn_F c M m k → wL_fits_6 post x (nI M) (nI m) n 1 (nI (k + 1)) := fun f => hw 1 (Or.inl ⟨rfl, lt_s h f⟩)
      have bad : ¬ fn_F c M m k → wL_fits_6 post x (nI M) (nI m) n 0 (nI (k + 1)) := fun f => hw 0 (Or.inr ⟨rfl, fun z => f (z k (by omega))⟩)
      refine pk_eq (c k) 0 (fun z => nm_r (nI_1 k) (good (fun y => absurd z y))) (fun z => ?_)
      refine ek_if (fn_bit hM (by omega)) (fun b => nm_r (nI_1 k) (good (fun _ y => by rw [b] at y; exact absurd y (by decide)))) (fun b => ?_)
      rw [(fn_c8 (c k) hc).1, (fn_c8 (c k) hc).2]
      have hv : fn_sm m (c k % 8) < 8 := fn_sm_lt hm _
      refine fn_sum hm (Nat.mod_lt _ (by omega)) ?_
      exact pk_eq (fn_sm m (c k % 8)) (c k / 8) (fun e => nm_r (nI_1 k) (good (fun _ _ => e))) (fun e => nm_r (nI_1 k) (bad (fun f => e (f z (eq_true_of_ne_false b)))))
    · exact br_t rfl (nm_r (nI_1 k) (hw 0 (Or.inr ⟨rfl, fun z => h (fun j hj => z j (by omega))⟩)))
theorem fn_n2 : ∀ w, w < 8 → ¬ nI w = -2 := by decide +kernel
theorem fn_n1 : ∀ w, w < 8 → ¬ -1 = nI w := by decide +kernel
def fn_kt (Q : Nat → Prop) (t k : Nat) (r : Int32) : Prop := (r = -2 ∧ ∀ m, m < k → ¬ Q m) ∨ (∃ w, w < 8 ∧ r = nI w ∧ (∃ m, m < k ∧ Q m) ∧ ∀ m, m < k → Q m → fn_sm m t = w) ∨ (r = -1 ∧ ∃ m m', m < k ∧ m' < k ∧ Q m ∧ Q m' ∧ fn_sm m t ≠ fn_sm m' t)
theorem fn_known {post : Int32 → Prop} {x : Int64} {c : Nat → Nat} {M t : Nat} (hr : fn_Ro x c) (hb : fn_B c) (hM : M < 2 ^ 31) (ht : t < 8) (ne : ∃ m, m < 512 ∧ fn_Q c M m) (H : ∀ r, fn_kn (fn_Q c M) t r → post r) : wpL_known post () x (nI M) (nI t) := by
  unfold wpL_known
  refine pk_loop (fun n k s => wL_known_7 post x (nI M) (nI t) n s (nI k)) (fun k s => fn_kt (fn_Q c M) t k s) 512 0 (-2) (by omega) (Or.inl ⟨rfl, fun j h => absurd h (by omega)⟩) ?_ ?_
  · intro n s h
    refine pk_le 512 512 (fun _ => H s ?_) (fun z => absurd z (by omega))
    rcases h with ⟨_, h⟩ | ⟨w, hw, e, _, h⟩ | ⟨e, h⟩
    · obtain ⟨m, hm, q⟩ := ne
      exact absurd q (h m hm)
    · exact Or.inl ⟨w, hw, e, h⟩
    · exact Or.inr ⟨e, h⟩
  · intro n k s hk h hw
    refine pk_le 512 k (fun z => absurd z (by omega)) (fun _ => fn_fits hr hb hM (by omega) (fun q => ?_) (fun q => ?_))
    · refine br_f (by decide) (fn_sum (by omega) ht ?_)
      have hv : fn_sm k t < 8 := fn_sm_lt (by omega) t
      rcases h with ⟨rfl, h⟩ | ⟨w, hw8, rfl, h1, h⟩ | ⟨rfl, a, b, ha, hb', qa, qb, h⟩
      · exact br_t rfl (nm_r (nI_1 k) (hw _ (Or.inr (Or.inl ⟨_, hv, rfl, ⟨k, by omega, q⟩, lt_s (fun m hm y => absurd y (h m hm)) (fun _ => rfl)⟩))))
      · refine br_f (fn_n2 w hw8) ?_
        refine pk_eq w (fn_sm k t) (fun e => nm_r (nI_1 k) (hw _ (Or.inr (Or.inl ⟨_, hv, rfl, ⟨k, by omega, q⟩, lt_s (fun m hm y => (h m hm y).trans e) (fun _ => rfl)⟩)))) (fun e => nm_r (nI_1 k) (hw _ (Or.inr (Or.inr ⟨rfl, ?_⟩))))
        obtain ⟨a, ha, qa⟩ := h1
        exact ⟨a, k, by omega, by omega, qa, q, by rw [h a ha qa]; exact e⟩
      · exact br_f (by decide) (br_f (fn_n1 _ hv) (nm_r (nI_1 k) (hw _ (Or.inr (Or.inr ⟨rfl, a, b, by omega, by omega, qa, qb, h⟩)))))
    · refine br_t rfl (nm_r (nI_1 k) (hw s ?_))
      rcases h with ⟨e, h⟩ | ⟨w, hw8, e, ⟨a, ha, qa⟩, h⟩ | ⟨e, a, b, ha, hb', qa, qb, h⟩
      · exact Or.inl ⟨e, lt_s h q⟩
      · exact Or.inr (Or.inl ⟨w, hw8, e, ⟨a, by omega, qa⟩, lt_s h (fun y => absurd y q)⟩)
      · exact Or.inr (Or.inr ⟨e, a, b, by omega, by omega, qa, qb, h⟩)
end
section
/-! ===== 04: the desk: its rows (reduce, leader, include, clearRows, build) ===== -/
def fn_Rw (a3 a4 : Nat → Int32) (R V : Nat → Nat) : Prop := (∀ j, j < 8 → a3 j = nI (R j)) ∧ (∀ j, j < 8 → a4 j = nI (V j))
/-- the rows say what Q says, and rank is their number -/
def fn_Rk (rk : Int32) (a3 a4 : Nat → Int32) (Q : Nat → Prop) : Prop := ∃ R V : Nat → Nat, fn_Rw a3 a4 R V ∧ fn_rq R V Q ∧ rk = nI (fn_cn (R 0) (R 1) (R 2))
theorem fn_Rk_c {rk : Int32} {a3 a4 : Nat → Int32} {Q Q' : Nat → Prop} (e : ∀ m, m < 512 → (Q m ↔ Q' m)) (h : fn_Rk rk a3 a4 Q) : fn_Rk rk a3 a4 Q' := by
  obtain ⟨R, V, hw, hq, hr⟩ := h
  exact ⟨R, V, hw, ⟨hq.1, fun m hm => (hq.2 m hm).trans (e m hm)⟩, hr⟩
theorem fn_x16 {a b : Nat} (ha : a < 16) (hb : b < 8) : a ^^^ b < 16 := Nat.xor_lt_two_pow (n := 4) ha (show b < 16 by omega)
theorem fn_reduce {post : St1 → Prop} {pr kn rk ls lv : Int32} {a1 a2 a3 a4 : Nat → Int32} {R V : Nat → Nat} {s v : Nat} (hw : fn_Rw a3 a4 R V) (ok : fn_ok R V) (hs : s < 16) (hv : v < 8) (H : post (pr, kn, rk, nI (fn_red R V (s, v)).1, nI (fn_red R V (s, v)).2, a1, a2, a3, a4)) : wpX_reduce post (pr, kn, rk, ls, lv, a1, a2, a3, a4) (nI s) (nI v) := by
  show ∃ fu13 : Nat, wX_reduce_13 post pr kn rk a1 a2 a3 a4 fu13 7 (nI s) (nI v)
  rw [show (7 : Int32) = nI 8 + (-1) from by decide]
  refine ⟨8 + 1, pk_loopD (fun n i (p : Nat × Nat) => wX_reduce_13 post pr kn rk a1 a2 a3 a4 n (nI i + (-1)) (nI p.1) (nI p.2)) (fun i p => i ≤ 8 ∧ p.1 < 16 ∧ p.2 < 8 ∧ fn_rd R V i p = fn_red R V (s, v)) ?_ ?_ 8 (s, v) ⟨by omega, hs, hv, fn_rd8 ok.1 _⟩⟩
  · intro n p h
    obtain ⟨_, _, _, e⟩ := h
    have e' : p = fn_red R V (s, v) := e
    show wX_reduce_13 post pr kn rk a1 a2 a3 a4 (n + 1) (nI 0 + (-1)) (nI p.1) (nI p.2)
    refine br_t (by decide) ?_
    rw [e']
    exact H
  · intro n i p h hk
    obtain ⟨hi, h1, h2, e⟩ := h
    have e' : fn_rd R V i (fn_st R V i p) = fn_red R V (s, v) := e
    show wX_reduce_13 post pr kn rk a1 a2 a3 a4 (n + 1) (nI (i + 1) + (-1)) (nI p.1) (nI p.2)
    rw [pk_m1]
    refine br_f (nI_pos (by omega)) ?_
    refine ek_if (fn_bit (by omega) (by omega)) (fun b => nm_e (hk p ⟨by omega, h1, h2, ?_⟩)) (fun b => ?_)
    · rw [fn_st_n V b] at e'
      exact e'
    · have b' := eq_true_of_ne_false b
      have hR := fn_ok_lt ok i
      have hV := ok.2.1 i
      rw [nI_clamp (show i < 2 ^ 31 by omega), hw.1 i (by omega), hw.2 i (by omega)]
      refine ⟨pk_in i 8 (by omega), pk_eq (R i) 0 (fun z => nm_e (hk p ⟨by omega, h1, h2, ?_⟩)) (fun z => ⟨pk_in i 8 (by omega), nm_r (fn_xor _ _) ⟨pk_in i 8 (by omega), nm_r (fn_xor _ _) (nm_e (hk (p.1 ^^^ R i, p.2 ^^^ V i) ⟨by omega, fn_x16 h1 hR, fn_x8 h2 hV, ?_⟩))⟩⟩)⟩
      · rw [fn_st_z V z] at e'
        exact e'
      · rw [fn_st_y V b' z] at e'
        exact e'
def fn_lr (l : Nat) : Nat → Nat
  | 0 => 0
  | i + 1 => if l.testBit (i + 1) = true then i + 1 else fn_lr l i
theorem fn_lr7 : ∀ l, l < 8 → fn_lr l 7 = fn_ld l := by decide +kernel
theorem fn_leader {post : Int32 → Prop} {l : Nat} (hl : l < 8) (H : post (nI (fn_ld l))) : wpX_leader post () (nI l) := by
  show ∃ fu3 : Nat, wX_leader_3 post (nI l) fu3 (nI 7)
  refine ⟨7 + 1, pk_loopD (fun n i (_ : Unit) => wX_leader_3 post (nI l) n (nI i)) (fun i _ => i ≤ 7 ∧ fn_lr l i = fn_ld l) ?_ ?_ 7 () ⟨by omega, fn_lr7 l hl⟩⟩
  · intro n _ h
    have e : 0 = fn_ld l := h.2
    refine br_t (by decide) ?_
    rw [← e] at H
    exact H
  · intro n i _ h hk
    obtain ⟨hi, e⟩ := h
    have e' : (if l.testBit (i + 1) = true then i + 1 else fn_lr l i) = fn_ld l := e
    refine br_f (nI_nle (by omega) (by omega)) ?_
    refine ek_if (fn_bit (by omega) (by omega)) (fun b => nm_r (pk_m1 i) (hk () ⟨by omega, ?_⟩)) (fun b => ?_)
    · rw [b, if_neg (by decide)] at e'
      exact e'
    · rw [if_pos (eq_true_of_ne_false b)] at e'
      rw [← e'] at H
      exact H
theorem fn_put1 {f : Nat → Int32} {j : Nat} {A B : Nat → Nat} {x : Int32} (h : ∀ q, q < 8 → f q = nI (if q < j then A q else B q)) (hx : x = nI (A j)) : ∀ q, q < 8 → upd f j x q = nI (if q < j + 1 then A q else B q) := by
  intro q hq
  by_cases e : q = j
  · rw [e, pk_us, if_pos (by omega), hx]
  · rw [pk_un e, h q hq]
    by_cases g : q < j
    · rw [if_pos g, if_pos (by omega)]
    · rw [if_neg g, if_neg (by omega)]
theorem fn_put0 {f : Nat → Int32} {j : Nat} {A B : Nat → Nat} (h : ∀ q, q < 8 → f q = nI (if q < j then A q else B q)) (hx : B j = A j) : ∀ q, q < 8 → f q = nI (if q < j + 1 then A q else B q) := by
  intro q hq
  rw [h q hq]
  by_cases e : q = j
  · rw [e, if_neg (by omega), if_pos (by omega), hx]
  · by_cases g : q < j
    · rw [if_pos g, if_pos (by omega)]
    · rw [if_neg g, if_neg (by omega)]
def fn_nv (i lv r v : Nat) : Nat := if r.testBit i = true then v ^^^ lv else v
theorem fn_inc25 {post : St1 → Prop} {pr kn rk : Int32} {l lv i : Nat} {a1 a2 a3 a4 : Nat → Int32} {R V : Nat → Nat} (hw : fn_Rw a3 a4 R V) (ok : fn_ok R V) (hl : l < 8) (hlv : lv < 8) (hi : i < 3)
    (H : ∀ b3 b4, fn_Rw b3 b4 (fn_R' R i l) (fn_V' R V i lv) → post (pr, kn, rk + 1, nI l, nI lv, a1, a2, b3, b4)) : ∃ fu25 : Nat, wX_include_25 post (nI i) pr kn rk (nI l) (nI lv) fu25 0 a1 a2 a3 a4 := by
  refine pk_loop (fun n j (s : (Nat → Int32) × (Nat → Int32)) => wX_include_25 post (nI i) pr kn rk (nI l) (nI lv) n (nI j) a1 a2 s.1 s.2) (fun j s => (∀ q, q < 8 → s.1 q = nI (if q < j then fn_nr i l (R q) else R q)) ∧ (∀ q, q < 8 → s.2 q = nI (if q < j then fn_nv i lv (R q) (V q) else V q))) 8 0 (a3, a4) (by omega) ⟨fun q hq => by rw [if_neg (by omega)]; exact hw.1 q hq, fun q hq => by rw [if_neg (by omega)]; exact hw.2 q hq⟩ ?_ ?_
  · intro n s h
    refine pk_le 8 8 (fun _ => ⟨pk_in i 8 (by omega), nm_e ⟨pk_in i 8 (by omega), nm_e (nm_e (H _ _ ⟨fun j hj => ?_, fun j hj => ?_⟩))⟩⟩) (fun z => absurd z (by omega))
    · rw [nI_clamp (show i < 2 ^ 31 by omega), fn_16 l (by omega)]
      show _ = nI (fn_nw i l (R j) j)
      unfold fn_nw
      by_cases e : j = i
      · rw [e, pk_us, if_pos rfl]
      · rw [pk_un e, h.1 j hj, if_pos hj, if_neg e]
    · rw [nI_clamp (show i < 2 ^ 31 by omega), fn_16 lv (by omega)]
      unfold fn_V'
      by_cases e : j = i
      · rw [e, pk_us, if_pos rfl]
      · rw [pk_un e, h.2 j hj, if_pos hj, if_neg e]
        rfl
  · intro n j s hj h hk
    refine pk_le 8 j (fun z => absurd z (by omega)) (fun _ => ⟨pk_in j 8 hj, ?_⟩)
    have hR := fn_ok_lt ok j
    have hV := ok.2.1 j
    have e1 : s.1 j = nI (R j) := by rw [h.1 j hj, if_neg (by omega)]
    have e2 : s.2 j = nI (V j) := by rw [h.2 j hj, if_neg (by omega)]
    rw [nI_clamp (show j < 2 ^ 31 by omega), e1, e2, fn_xor, fn_xor, fn_16 _ (show R j ^^^ l < 64 by have := fn_x8 hR hl; omega), fn_16 _ (show V j ^^^ lv < 64 by have := fn_x8 hV hlv; omega)]
    refine ek_if (fn_bit (by omega) (by omega)) (fun b => nm_r (nI_1 j) (hk s ⟨fn_put0 h.1 ?_, fn_put0 h.2 ?_⟩)) (fun b => ⟨pk_in j 8 hj, pk_in j 8 hj, nm_e ⟨pk_in j 8 hj, pk_in j 8 hj, nm_e (nm_r (nI_1 j) (hk (_, _) ⟨fn_put1 h.1 ?_, fn_put1 h.2 ?_⟩))⟩⟩)
    · unfold fn_nr
      rw [if_neg (by rw [b]; decide)]
    · unfold fn_nv
      rw [if_neg (by rw [b]; decide)]
    · unfold fn_nr
      rw [if_pos (eq_true_of_ne_false b)]
    · unfold fn_nv
      rw [if_pos (eq_true_of_ne_false b)]
theorem fn_include {post : St1 → Prop} {pr kn rk ls lv : Int32} {a1 a2 a3 a4 : Nat → Int32} {s v : Nat} {Q : Nat → Prop} (h : fn_Rk rk a3 a4 Q) (hs : s < 8) (hv : v < 8) (ne : ∃ m, m < 512 ∧ Q m ∧ fn_sm m s = v)
    (H : ∀ rk' ls' lv' b3 b4, fn_Rk rk' b3 b4 (fun m => Q m ∧ fn_sm m s = v) → post (pr, kn, rk', ls', lv', a1, a2, b3, b4)) : wpX_include post (pr, kn, rk, ls, lv, a1, a2, a3, a4) (nI s) (nI v) := by
  obtain ⟨R, V, hw, hq, hrk⟩ := h
  unfold wpX_include
  dsimp only
  refine fn_reduce hw hq.1 (by omega) hv ?_
  dsimp only
  have b1 : (fn_red R V (s, v)).1 < 8 := fn_red_lt hq.1 hs
  have b2 : (fn_red R V (s, v)).2 < 8 := fn_red_v hq.1.2.1 hv
  refine pk_eq (fn_red R V (s, v)).1 0 (fun z => H _ _ _ _ _ ⟨R, V, hw, ⟨hq.1, fun m hm => ?_⟩, hrk⟩) (fun z => ?_)
  · obtain ⟨m0, hm0, q0, e0⟩ := ne
    rw [hq.2 m hm]
    refine ⟨fun q => ⟨q, ?_⟩, fun q => q.1⟩
    rw [fn_one ((hq.2 m hm).mpr q) z, ← fn_one ((hq.2 m0 hm0).mpr q0) z, e0]
  · obtain ⟨i1, i2, i3, i4⟩ := fn_inc hq.1 hs hv z
    refine fn_leader b1 (fn_inc25 hw hq.1 b1 b2 i3 (fun b3 b4 hb => ?_))
    refine H _ _ _ _ _ ⟨_, _, hb, ⟨i1, fun m hm => ?_⟩, ?_⟩
    · rw [i4, hq.2 m hm]
    · rw [hrk, i2, nI_1]
theorem fn_clear {post : St1 → Prop} {pr kn rk ls lv : Int32} {a1 a2 a3 a4 : Nat → Int32} (H : ∀ b3 b4, fn_Rw b3 b4 (fun _ => 0) (fun _ => 0) → post (pr, kn, 0, ls, lv, a1, a2, b3, b4)) : wpX_clearRows post (pr, kn, rk, ls, lv, a1, a2, a3, a4) := by
  show ∃ fu2 : Nat, wX_clearRows_2 post pr kn rk ls lv fu2 0 a1 a2 a3 a4
  refine pk_loop (fun n j (s : (Nat → Int32) × (Nat → Int32)) => wX_clearRows_2 post pr kn rk ls lv n (nI j) a1 a2 s.1 s.2) (fun j s => (∀ q, q < j → s.1 q = 0) ∧ (∀ q, q < j → s.2 q = 0)) 8 0 (a3, a4) (by omega) ⟨fun q hq => absurd hq (by omega), fun q hq => absurd hq (by omega)⟩ ?_ ?_
  · intro n s h
    exact pk_le 8 8 (fun _ => H _ _ ⟨h.1, h.2⟩) (fun z => absurd z (by omega))
  · intro n j s hj h hk
    refine pk_le 8 j (fun z => absurd z (by omega)) (fun _ => ⟨pk_in j 8 hj, nm_e ⟨pk_in j 8 hj, nm_e (nm_r (nI_1 j) (hk (_, _) ⟨fun q hq => ?_, fun q hq => ?_⟩))⟩⟩)
    · rw [nI_clamp (show j < 2 ^ 31 by omega)]
      by_cases e : q = j
      · rw [e]
        exact pk_us
      · exact (pk_un e).trans (h.1 q (by omega))
    · rw [nI_clamp (show j < 2 ^ 31 by omega)]
      by_cases e : q = j
      · rw [e]
        exact pk_us
      · exact (pk_un e).trans (h.2 q (by omega))
theorem fn_build {post : St1 → Prop} {pr kn rk ls lv : Int32} {a1 a2 a3 a4 : Nat → Int32} {c : Nat → Nat} {M : Nat} (hD : ∀ k, k < 10 → M.testBit k = true → c k < 64 ∧ a1 k = nI (c k % 8) ∧ a2 k = nI (c k / 8)) (hM : M < 2 ^ 31) (ne : ∃ m, m < 512 ∧ ∀ k, k < 10 → M.testBit k = true → fn_sm m (c k % 8) = c k / 8)
    (H : ∀ rk' ls' lv' b3 b4, fn_Rk rk' b3 b4 (fun m => ∀ k, k < 10 → M.testBit k = true → fn_sm m (c k % 8) = c k / 8) → post (pr, kn, rk', ls', lv', a1, a2, b3, b4)) : wpX_build post (pr, kn, rk, ls, lv, a1, a2, a3, a4) (nI M) := by
  unfold wpX_build
  dsimp only
  refine fn_clear (fun b3 b4 hb => ?_)
  dsimp only
  have h0 : fn_Rk 0 b3 b4 (fun m => ∀ j, j < 0 → M.testBit j = true → fn_sm m (c j % 8) = c j / 8) :=
    ⟨fun _ => 0, fun _ => 0, hb, ⟨⟨fun _ _ => rfl, fun _ => by show 0 < 8; omega, by decide⟩, fun m hm => ⟨fun _ j hj => absurd hj (by omega), fun _ j hj hn => absurd rfl hn⟩⟩, by decide⟩
  refine pk_loop (fun n k (s : Int32 × Int32 × Int32 × (Nat → Int32) × (Nat → Int32)) => wX_build_6 post (nI M) n (nI k) pr kn s.1 s.2.1 s.2.2.1 a1 a2 s.2.2.2.1 s.2.2.2.2) (fun k s => fn_Rk s.1 s.2.2.2.1 s.2.2.2.2 (fun m => ∀ j, j < k → M.testBit j = true → fn_sm m (c j % 8) = c j / 8)) 10 0 (0, ls, lv, b3, b4) (by omega) h0 ?_ ?_
  · intro n s h
    exact pk_le 10 10 (fun _ => H _ _ _ _ _ h) (fun z => absurd z (by omega))
  · intro n k s hk h hw
    refine pk_le 10 k (fun z => absurd z (by omega)) (fun _ => ?_)
    refine ek_if (fn_bit hM (by omega)) (fun b => nm_r (nI_1 k) (hw s ?_)) (fun b => ?_)
    · exact fn_Rk_c (fun m hm => ⟨fun z => lt_s z (fun y => by rw [b] at y; exact absurd y (by decide)), fun z j hj => z j (by omega)⟩) h
    · have b' := eq_true_of_ne_false b
      obtain ⟨c1, c2, c3⟩ := hD k hk b'
      rw [nI_clamp (show k < 2 ^ 31 by omega), c2, c3]
      refine ⟨pk_in k 10 hk, pk_in k 10 hk, fn_include h (Nat.mod_lt _ (by omega)) (by omega) ?_ (fun rk' ls' lv' d3 d4 hd => ?_)⟩
      · obtain ⟨m0, hm0, q0⟩ := ne
        exact ⟨m0, hm0, fun j hj => q0 j (by omega), q0 k hk b'⟩
      · exact nm_r (nI_1 k) (hw (rk', ls', lv', d3, d4) (fn_Rk_c (fun m hm => ⟨fun z => lt_s z.1 (fun _ => z.2), fun z => ⟨fun j hj => z j (by omega), z k (by omega) b'⟩⟩) hd))
end
section
/-! ===== 05: the desk: its methods against the cells ===== -/
theorem fn_1023 : ∀ k, k < 10 → (1023 : Nat).testBit k = true := by decide +kernel
/-- present, sets, values hold the cells -/
def fn_P (c : Nat → Nat) (pr : Int32) (a1 a2 : Nat → Int32) : Prop := ∃ p, p < 1024 ∧ pr = nI p ∧ (∀ k, k < 10 → (p.testBit k = true ↔ c k ≠ 0)) ∧ ∀ k, k < 10 → c k ≠ 0 → a1 k = nI (c k % 8) ∧ a2 k = nI (c k / 8)
/-- if known, the rows are those of all cells -/
def fn_K (c : Nat → Nat) (kn rk : Int32) (a3 a4 : Nat → Int32) : Prop := kn = 0 ∨ fn_Rk rk a3 a4 (fn_Q c 1023)
/-- cells below 64, some message fits them all -/
def fn_C (c : Nat → Nat) : Prop := fn_B c ∧ ∃ m, m < 512 ∧ fn_Q c 1023 m
theorem fn_Q_all {c : Nat → Nat} {m : Nat} (h : fn_Q c 1023 m) (N : Nat) : fn_Q c N m := fun k hk h0 _ => h k hk h0 (fn_1023 k hk)
theorem fn_bld {post : St1 → Prop} {pr kn rk ls lv : Int32} {a1 a2 a3 a4 : Nat → Int32} {c : Nat → Nat} {M N : Nat} (hd : ∀ k, k < 10 → c k ≠ 0 → a1 k = nI (c k % 8) ∧ a2 k = nI (c k / 8)) (hC : fn_C c) (hM : M < 2 ^ 31) (hMN : ∀ k, k < 10 → (M.testBit k = true ↔ c k ≠ 0 ∧ N.testBit k = true))
    (H : ∀ rk' ls' lv' b3 b4, fn_Rk rk' b3 b4 (fn_Q c N) → post (pr, kn, rk', ls', lv', a1, a2, b3, b4)) : wpX_build post (pr, kn, rk, ls, lv, a1, a2, a3, a4) (nI M) := by
  refine fn_build (c := c) (fun k hk b => ?_) hM ?_ (fun rk' ls' lv' b3 b4 h => H rk' ls' lv' b3 b4 (fn_Rk_c (fun m hm => ?_) h))
  · exact ⟨hC.1 k hk, hd k hk ((hMN k hk).mp b).1⟩
  · obtain ⟨m, hm, q⟩ := hC.2
    exact ⟨m, hm, fun k hk b => q k hk ((hMN k hk).mp b).1 (fn_1023 k hk)⟩
  · exact ⟨fun z k hk h0 b => z k hk ((hMN k hk).mpr ⟨h0, b⟩), fun z k hk b => z k hk ((hMN k hk).mp b).1 ((hMN k hk).mp b).2⟩
section
variable {c : Nat → Nat} {pr kn rk ls lv : Int32} {a1 a2 a3 a4 : Nat → Int32}
theorem fn_learn {post : St1 → Prop} (hP : fn_P c pr a1 a2) (hC : fn_C c) (hK : fn_K c kn rk a3 a4)
    (H : ∀ kn' rk' ls' lv' b3 b4, fn_Rk rk' b3 b4 (fn_Q c 1023) → post (pr, kn', rk', ls', lv', a1, a2, b3, b4)) : wpX_learn post (pr, kn, rk, ls, lv, a1, a2, a3, a4) := by
  unfold wpX_learn
  dsimp only
  refine br_c (fun z => ?_) (fun z => ?_)
  · obtain ⟨p, hp, rfl, hb, hd⟩ := hP
    refine fn_bld hd hC (by omega) (fun k hk => ⟨fun b => ⟨(hb k hk).mp b, fn_1023 k hk⟩, fun b => (hb k hk).mpr b.1⟩) (fun rk' ls' lv' b3 b4 h => ?_)
    exact H _ _ _ _ _ _ h
  · rcases hK with e | h
    · exact absurd e z
    · exact H _ _ _ _ _ _ h
theorem fn_sumX {post : Int32 → St1 → Prop} (hP : fn_P c pr a1 a2) (hC : fn_C c) (hK : fn_K c kn rk a3 a4) {t : Nat} (ht : t < 8)
    (H : ∀ r kn' rk' ls' lv' b3 b4, fn_kn (fn_Q c 1023) t r → fn_K c kn' rk' b3 b4 → post r (pr, kn', rk', ls', lv', a1, a2, b3, b4)) : wpX_sum post (pr, kn, rk, ls, lv, a1, a2, a3, a4) (nI t) := by
  unfold wpX_sum
  dsimp only
  refine br_f (nI_pos (by omega)) (pk_le t 255 (fun _ => ?_) (fun z => absurd z (by omega)))
  refine fn_learn hP hC hK (fun kn' rk' ls' lv' b3 b4 h => ?_)
  dsimp only
  have h' := h
  obtain ⟨R, V, hw, hq, _⟩ := h
  refine fn_reduce (v := 0) hw hq.1 (by omega) (by omega) ?_
  dsimp only
  have k := fn_rq_kn hq hC.2 ht
  have b1 : (fn_red R V (t, 0)).1 < 8 := fn_red_lt hq.1 ht
  refine pk_eq (fn_red R V (t, 0)).1 0 (fun z => H _ _ _ _ _ _ _ ?_ (Or.inr h')) (fun z => H _ _ _ _ _ _ _ ?_ (Or.inr h'))
  · rw [if_pos z] at k
    exact k
  · rw [if_neg z] at k
    exact k
theorem fn_sum8 {post : Int32 → St1 → Prop} (hP : fn_P c pr a1 a2) (hC : fn_C c) (hK : fn_K c kn rk a3 a4) {t : Nat} (h8 : 8 ≤ t) (ht : t < 16)
    (H : ∀ kn' rk' ls' lv' b3 b4, fn_K c kn' rk' b3 b4 → post (-1) (pr, kn', rk', ls', lv', a1, a2, b3, b4)) : wpX_sum post (pr, kn, rk, ls, lv, a1, a2, a3, a4) (nI t) := by
  unfold wpX_sum
  dsimp only
  refine br_f (nI_pos (by omega)) (pk_le t 255 (fun _ => ?_) (fun z => absurd z (by omega)))
  refine fn_learn hP hC hK (fun kn' rk' ls' lv' b3 b4 h => ?_)
  dsimp only
  have h' := h
  obtain ⟨R, V, hw, hq, _⟩ := h
  refine fn_reduce (v := 0) hw hq.1 (by omega) (by omega) ?_
  dsimp only
  obtain ⟨b1, b2⟩ := fn_red_16 hq.1 (v := 0) ht h8
  exact pk_eq (fn_red R V (t, 0)).1 0 (fun z => absurd z b2) (fun z => H _ _ _ _ _ _ (Or.inr h'))
theorem fn_rankOf {post : Int32 → St1 → Prop} (hP : fn_P c pr a1 a2) (hC : fn_C c) {N : Nat}
    (H : ∀ rk' ls' lv' b3 b4, fn_Rk rk' b3 b4 (fn_Q c N) → post rk' (pr, 0, rk', ls', lv', a1, a2, b3, b4)) : wpX_rankOf post (pr, kn, rk, ls, lv, a1, a2, a3, a4) (nI N) := by
  unfold wpX_rankOf
  dsimp only
  obtain ⟨p, hp, rfl, hb, hd⟩ := hP
  rw [fn_and]
  have hl : N &&& p ≤ p := Nat.and_le_right
  refine fn_bld (N := N) hd hC (by omega) (fun k hk => ?_) (fun rk' ls' lv' b3 b4 h => ?_)
  · rw [Nat.testBit_and, Bool.and_eq_true, hb k hk]
    exact ⟨fun z => ⟨z.2, z.1⟩, fun z => ⟨z.2, z.1⟩⟩
  · exact H _ _ _ _ _ h
theorem fn_enough {post : Int32 → St1 → Prop} (hP : fn_P c pr a1 a2) (hC : fn_C c) {N : Nat}
    (H : ∀ r rk' ls' lv' b3 b4, ((r = 1 ∧ ∀ t, t < 8 → ∀ r r2, fn_kn (fn_Q c 1023) t r → fn_kn (fn_Q c N) t r2 → (r < 0 ↔ r2 < 0)) ∨ (r = 0 ∧ ¬ ∀ t, t < 8 → ∀ r r2, fn_kn (fn_Q c 1023) t r → fn_kn (fn_Q c N) t r2 → (r < 0 ↔ r2 < 0))) → post r (pr, 0, rk', ls', lv', a1, a2, b3, b4)) : wpX_enough post (pr, kn, rk, ls, lv, a1, a2, a3, a4) (nI N) := by
  have hP' := hP
  obtain ⟨p, hp, rfl, hb, hd⟩ := hP
  unfold wpX_enough
  dsimp only
  refine fn_rankOf hP' hC (fun rk' ls' lv' b3 b4 h => ?_)
  dsimp only
  refine fn_rankOf hP' hC (fun rk2 ls2 lv2 d3 d4 h2 => ?_)
  dsimp only
  have h1 : fn_Rk rk' b3 b4 (fn_Q c 1023) := fn_Rk_c (fun m hm => ⟨fun z k hk h0 _ => z k hk h0 ((hb k hk).mpr h0), fun z => fn_Q_all z p⟩) h
  obtain ⟨R, V, _, hq, hr⟩ := h1
  obtain ⟨R2, V2, _, hq2, hr2⟩ := h2
  have E := fn_rank hq hq2 hC.2 (fun m z => fn_Q_all z N)
  obtain ⟨ha, hb', hc⟩ := fn_sh_lt hq.1.2.2
  obtain ⟨ha2, hb2, hc2⟩ := fn_sh_lt hq2.1.2.2
  have f1 := fn_F6 _ ha _ hb' _ hc
  have f2 := fn_F6 _ ha2 _ hb2 _ hc2
  exact pk_eq (fn_cn (R2 0) (R2 1) (R2 2)) (fn_cn (R 0) (R 1) (R 2)) (fun z => H _ _ _ _ _ _ (Or.inl ⟨rfl, E.mp z⟩)) (fun z => H _ _ _ _ _ _ (Or.inr ⟨rfl, fun y => z (E.mpr y)⟩)) hr2 hr
theorem fn_red_10 {R V : Nat → Nat} (h : R 0 = 1) : fn_red R V (1, 0) = (0, V 0) := by
  unfold fn_red
  rw [fn_st_n V (i := 2) (p := (1, 0)) (by decide), fn_st_n V (i := 1) (p := (1, 0)) (by decide), fn_st_y V (i := 0) (p := (1, 0)) (by decide) (by rw [h]; decide), h]
  show (1 ^^^ 1, 0 ^^^ V 0) = (0, V 0)
  rw [Nat.xor_self, Nat.zero_xor]
theorem fn_piece0 {post : Int32 → St1 → Prop} (hP : fn_P c pr a1 a2) (hC : fn_C c) (hK : fn_K c kn rk a3 a4)
    (H : ∀ r kn' rk' ls' lv' b3 b4, fn_kn (fn_Q c 1023) 1 r → fn_K c kn' rk' b3 b4 → post r (pr, kn', rk', ls', lv', a1, a2, b3, b4)) : wpX_piece post (pr, kn, rk, ls, lv, a1, a2, a3, a4) 0 := by
  unfold wpX_piece
  dsimp only
  refine br_f (by decide) (br_t (by decide) ?_)
  refine fn_learn hP hC hK (fun kn' rk' ls' lv' b3 b4 h => ?_)
  dsimp only
  have h' := h
  obtain ⟨R, V, hw, hq, _⟩ := h
  rw [sb_cl0, hw.1 0 (by omega), hw.2 0 (by omega)]
  have k := fn_rq_kn hq hC.2 (t := 1) (by omega)
  obtain ⟨ha, hb, hc⟩ := fn_sh_lt hq.1.2.2
  refine ⟨pk_in 0 8 (by omega), pk_eq (R 0) 1 (fun z => ⟨pk_in 0 8 (by omega), H _ _ _ _ _ _ _ ?_ (Or.inr h')⟩) (fun z => H _ _ _ _ _ _ _ ?_ (Or.inr h')) (hy := by decide)⟩
  · rw [fn_red_10 z] at k
    exact k
  · have z' : (fn_red R V (1, 0)).1 ≠ 0 := by
      rw [fn_red_1]
      exact fun y => z ((fn_F5 _ ha _ hb _ hc hq.1.2.2).mp y)
    rw [if_neg z'] at k
    exact k
theorem fn_possible {post : Int32 → St1 → Prop} (hP : fn_P c pr a1 a2) (hC : fn_C c) (hK : fn_K c kn rk a3 a4) {v : Nat} (hv : v < 8)
    (H : ∀ r q kn' rk' ls' lv' b3 b4, fn_kn (fn_Q c 1023) 1 r → ((q = 1 ∧ (r < 0 ∨ r = nI v)) ∨ (q = 0 ∧ ¬ (r < 0 ∨ r = nI v))) → fn_K c kn' rk' b3 b4 → post q (pr, kn', rk', ls', lv', a1, a2, b3, b4)) : wpX_possible post (pr, kn, rk, ls, lv, a1, a2, a3, a4) 0 (nI v) := by
  unfold wpX_possible
  dsimp only
  refine br_f (by decide) (br_f (by decide) (br_f (nI_pos (by omega)) (pk_le v 255 (fun _ => ?_) (fun z => absurd z (by omega)))))
  refine fn_piece0 hP hC hK (fun r kn' rk' ls' lv' b3 b4 h h' => ?_)
  dsimp only
  exact br_c (fun z => H r _ _ _ _ _ _ _ h (Or.inl ⟨rfl, Or.inl z⟩) h') (fun z => br_c (fun y => H r _ _ _ _ _ _ _ h (Or.inl ⟨rfl, Or.inr y⟩) h') (fun y => H r _ _ _ _ _ _ _ h (Or.inr ⟨rfl, fun x => x.elim z y⟩) h'))
theorem fn_has {post : Int32 → Prop} (hP : fn_P c pr a1 a2) {k : Nat} (hk : k < 10) (H1 : c k ≠ 0 → post 1) (H0 : c k = 0 → post 0) : wpX_has post (pr, kn, rk, ls, lv, a1, a2, a3, a4) (nI k) := by
  obtain ⟨p, hp, rfl, hb, hd⟩ := hP
  unfold wpX_has
  dsimp only
  refine br_f (nI_pos (by omega)) (pk_le 10 k (fun z => absurd z (by omega)) (fun _ => ?_))
  refine ek_if (fn_bit (by omega) (by omega)) (fun b => H0 ?_) (fun b => H1 ((hb k hk).mp (eq_true_of_ne_false b)))
  by_cases z : c k = 0
  · exact z
  · have t := (hb k hk).mpr z
    rw [b] at t
    exact absurd t (by decide)
theorem fn_drp {post : Int32 → St1 → Prop} (hP : fn_P c pr a1 a2) {k : Nat} (hk : k < 10) (H0 : c k = 0 → post 0 (pr, kn, rk, ls, lv, a1, a2, a3, a4)) (H1 : c k ≠ 0 → ∀ pr', fn_P (fn_up c k 0) pr' a1 a2 → post 1 (pr', 0, rk, ls, lv, a1, a2, a3, a4)) : wpX_drop post (pr, kn, rk, ls, lv, a1, a2, a3, a4) (nI k) := by
  unfold wpX_drop
  dsimp only
  refine fn_has hP hk (fun h => br_f (by decide) (nm_e (H1 h _ ?_))) (fun h => br_t rfl (H0 h))
  obtain ⟨p, hp, rfl, hb, hd⟩ := hP
  rw [fn_ns k hk, fn_and]
  have hl : p &&& (4294967295 - 2 ^ k) ≤ p := Nat.and_le_left
  refine ⟨_, (by omega : p &&& (4294967295 - 2 ^ k) < 1024), rfl, fun j hj => ?_, fun j hj h0 => ?_⟩
  · rw [Nat.testBit_and, fn_nb k hk j hj]
    by_cases e : j = k
    · rw [e, fn_up_s, decide_eq_true rfl]
      simp
    · rw [fn_up_n c 0 e, decide_eq_false e, Bool.not_false, Bool.and_true]
      exact hb j hj
  · by_cases e : j = k
    · rw [e, fn_up_s] at h0
      exact absurd rfl h0
    · rw [fn_up_n c 0 e] at h0 ⊢
      exact hd j hj h0
theorem fn_drp_C {k : Nat} (h : fn_C c) : fn_C (fn_up c k 0) := by
  refine ⟨fun j hj => ?_, ?_⟩
  · by_cases e : j = k
    · rw [e, fn_up_s]
      omega
    · rw [fn_up_n c 0 e]
      exact h.1 j hj
  · obtain ⟨m, hm, q⟩ := h.2
    refine ⟨m, hm, fun j hj h0 hb => ?_⟩
    by_cases e : j = k
    · rw [e, fn_up_s] at h0
      exact absurd rfl h0
    · rw [fn_up_n c 0 e] at h0 ⊢
      exact q j hj h0 hb
/-- a cell more -/
theorem fn_Q_up {f s v m : Nat} (hf : f < 10) (h0 : c f = 0) (hs : 0 < s) (hs8 : s < 8) : fn_Q c 1023 m ∧ fn_sm m s = v ↔ fn_Q (fn_up c f (s + 8 * v)) 1023 m := by
  constructor
  · intro h k hk hn hb
    by_cases e : k = f
    · rw [e, fn_up_s, show (s + 8 * v) % 8 = s by omega, show (s + 8 * v) / 8 = v by omega]
      exact h.2
    · rw [fn_up_n c _ e] at hn ⊢
      exact h.1 k hk hn hb
  · intro h
    refine ⟨fun k hk hn hb => ?_, ?_⟩
    · have e : k ≠ f := fun z => hn (z ▸ h0)
      have t := h k hk
      unfold fn_F at t
      rw [fn_up_n c _ e] at t
      exact t hn hb
    · have t := h f hf
      unfold fn_F at t
      rw [fn_up_s, show (s + 8 * v) % 8 = s by omega, show (s + 8 * v) / 8 = v by omega] at t
      exact t (by omega) (fn_1023 f hf)
theorem fn_P_up {f s v p : Nat} (hf : f < 10) (hs : 0 < s) (hs8 : s < 8) (hv : v < 8) (hp : p < 1024) (hb : ∀ k, k < 10 → (p.testBit k = true ↔ c k ≠ 0)) (hd : ∀ k, k < 10 → c k ≠ 0 → a1 k = nI (c k % 8) ∧ a2 k = nI (c k / 8)) :
    fn_P (fn_up c f (s + 8 * v)) (nI p ||| ((1 : Int32) <<< (nI f &&& 31))) (upd a1 (nI f).toNatClampNeg (nI s).toInt16.toInt32) (upd a2 (nI f).toNatClampNeg (nI v).toInt16.toInt32) := by
  rw [fn_1s f hf, fn_or, nI_clamp (show f < 2 ^ 31 by omega), fn_16 s (by omega), fn_16 v (by omega)]
  have h2 : 2 ^ f < 2 ^ 10 := Nat.pow_lt_pow_right (by decide) hf
  refine ⟨_, (Nat.or_lt_two_pow (n := 10) hp h2 : p ||| 2 ^ f < 1024), rfl, fun k hk => ?_, fun k hk h0 => ?_⟩
  · rw [Nat.testBit_or, Nat.testBit_two_pow]
    by_cases e : k = f
    · rw [e, fn_up_s, decide_eq_true rfl, Bool.or_true]
      exact ⟨fun _ => by omega, fun _ => rfl⟩
    · rw [fn_up_n c _ e, decide_eq_false (fun z => e z.symm), Bool.or_false]
      exact hb k hk
  · by_cases e : k = f
    · rw [e, fn_up_s, pk_us, pk_us, show (s + 8 * v) % 8 = s by omega, show (s + 8 * v) / 8 = v by omega]
      exact ⟨rfl, rfl⟩
    · rw [fn_up_n c _ e] at h0 ⊢
      rw [pk_un e, pk_un e]
      exact hd k hk h0
theorem fn_take78 {post : Int32 → St1 → Prop} (hP : fn_P c pr a1 a2) (hC : fn_C c) (hK : fn_Rk rk a3 a4 (fn_Q c 1023)) {f s v : Nat} (hf : f < 10) (h0 : c f = 0) (hs : 0 < s) (hs8 : s < 8) (hv : v < 8) (ne : ∃ m, m < 512 ∧ fn_Q c 1023 m ∧ fn_sm m s = v)
    (H : ∀ pr' kn' rk' ls' lv' b1 b2 b3 b4, fn_P (fn_up c f (s + 8 * v)) pr' b1 b2 → fn_K (fn_up c f (s + 8 * v)) kn' rk' b3 b4 → fn_C (fn_up c f (s + 8 * v)) → post (nI f) (pr', kn', rk', ls', lv', b1, b2, b3, b4)) : wX_take_78 post (nI s) (nI v) (nI f) pr kn rk ls lv a1 a2 a3 a4 := by
  unfold wX_take_78
  obtain ⟨p, hp, rfl, hb, hd⟩ := hP
  refine nm_e ⟨pk_in f 10 hf, nm_e ⟨pk_in f 10 hf, nm_e (fn_include hK hs8 hv ne (fun rk' ls' lv' b3 b4 h => ?_))⟩⟩
  refine H _ _ _ _ _ _ _ _ _ (fn_P_up hf hs hs8 hv hp hb hd) (Or.inr (fn_Rk_c (fun m hm => fn_Q_up hf h0 hs hs8) h)) ⟨fun j hj => ?_, ?_⟩
  · by_cases e : j = f
    · rw [e, fn_up_s]
      omega
    · rw [fn_up_n c _ e]
      exact hC.1 j hj
  · obtain ⟨m, hm, q⟩ := ne
    exact ⟨m, hm, (fn_Q_up hf h0 hs hs8).mp q⟩
theorem fn_take42 {post : Int32 → St1 → Prop} (hP : fn_P c pr a1 a2) (hC : fn_C c) (hK : fn_K c kn rk a3 a4) {f s v : Nat} (hf : f ≤ 10) (h0 : f < 10 → c f = 0) (hs : 0 < s) (hs8 : s < 8) (hv : v < 8) {now : Int32} (hn : fn_kn (fn_Q c 1023) s now)
    (H10 : f = 10 → post (-2) (pr, kn, rk, ls, lv, a1, a2, a3, a4))
    (Hrf : f < 10 → ¬ now < 0 → now ≠ nI v → ∀ kn' rk' ls' lv' b3 b4, fn_K c kn' rk' b3 b4 → post (-3) (pr, kn', rk', ls', lv', a1, a2, b3, b4))
    (Hok : f < 10 → (now < 0 ∨ now = nI v) → ∀ pr' kn' rk' ls' lv' b1 b2 b3 b4, fn_P (fn_up c f (s + 8 * v)) pr' b1 b2 → fn_K (fn_up c f (s + 8 * v)) kn' rk' b3 b4 → fn_C (fn_up c f (s + 8 * v)) → post (nI f) (pr', kn', rk', ls', lv', b1, b2, b3, b4)) : wX_take_42 post (nI s) (nI v) (nI f) pr kn rk ls lv a1 a2 a3 a4 := by
  unfold wX_take_42
  refine pk_eq f 10 H10 (fun z => ?_)
  have hf' : f < 10 := by omega
  refine fn_learn hP hC hK (fun kn' rk' ls' lv' b3 b4 h => ?_)
  dsimp only
  have h' := h
  obtain ⟨R, V, hw, hq, _⟩ := h
  refine fn_reduce hw hq.1 (by omega) hv ?_
  dsimp only
  have bl : (fn_red R V (s, v)).1 < 8 := fn_red_lt hq.1 hs8
  have bv : (fn_red R V (s, v)).2 < 8 := fn_red_v hq.1.2.1 hv
  obtain ⟨m0, hm0, q0⟩ := hC.2
  refine pk_eq (fn_red R V (s, v)).1 0 (fun z1 => ?_) (fun z1 => ?_)
  · -- led away: one value
    have hone : ∀ m, m < 512 → fn_Q c 1023 m → fn_sm m s = v ^^^ (fn_red R V (s, v)).2 := fun m hm q => fn_one ((hq.2 m hm).mpr q) z1
    have hnow : now = nI (v ^^^ (fn_red R V (s, v)).2) := fn_kn_u ⟨m0, hm0, q0⟩ hn (Or.inl ⟨_, fn_x8 hv bv, rfl, hone⟩)
    have b8 : v ^^^ (fn_red R V (s, v)).2 < 8 := fn_x8 hv bv
    refine pk_eq (fn_red R V (s, v)).2 0 (fun z2 => ?_) (fun z2 => ?_)
    · rw [z2, Nat.xor_zero] at hnow hone
      exact fn_take78 hP hC h' hf' (h0 hf') hs hs8 hv ⟨m0, hm0, q0, hone m0 hm0 q0⟩ (Hok hf' (Or.inr hnow))
    · refine Hrf hf' ?_ ?_ _ _ _ _ _ _ (Or.inr h')
      · rw [hnow]
        exact nI_pos (by omega)
      · rw [hnow]
        intro y
        rw [nI_eq (by omega) (by omega)] at y
        apply z2
        have y2 : (v ^^^ (fn_red R V (s, v)).2) ^^^ v = v ^^^ v := by rw [y]
        rw [Nat.xor_comm v, fn_xk, Nat.xor_self] at y2
        exact y2
  · -- not led away: any value
    have z' : fn_r3 (R 0) (R 1) (R 2) s ≠ 0 := by
      rw [fn_red_1] at z1
      exact z1
    have hneg : now < 0 := by
      by_cases y : now < 0
      · exact y
      · exact absurd ((fn_rq_neg hq hC.2 hs8 hn).mp y) z'
    obtain ⟨m1, hm1, f1, e1⟩ := fn_any hq.1 hm0 ((hq.2 m0 hm0).mpr q0) hs8 z' hv
    exact fn_take78 hP hC h' hf' (h0 hf') hs hs8 hv ⟨m1, hm1, (hq.2 m1 hm1).mp f1, e1⟩ (Hok hf' (Or.inl hneg))
theorem fn_take {post : Int32 → St1 → Prop} (hP : fn_P c pr a1 a2) (hC : fn_C c) (hK : fn_K c kn rk a3 a4) {f s v : Nat} (hf : f ≤ 10) (hfl : ∀ j, j < f → c j ≠ 0) (h0 : f < 10 → c f = 0) (hs : 0 < s) (hs8 : s < 8) (hv : v < 8) {now : Int32} (hn : fn_kn (fn_Q c 1023) s now)
    (H10 : f = 10 → post (-2) (pr, kn, rk, ls, lv, a1, a2, a3, a4))
    (Hrf : f < 10 → ¬ now < 0 → now ≠ nI v → ∀ kn' rk' ls' lv' b3 b4, fn_K c kn' rk' b3 b4 → post (-3) (pr, kn', rk', ls', lv', a1, a2, b3, b4))
    (Hok : f < 10 → (now < 0 ∨ now = nI v) → ∀ pr' kn' rk' ls' lv' b1 b2 b3 b4, fn_P (fn_up c f (s + 8 * v)) pr' b1 b2 → fn_K (fn_up c f (s + 8 * v)) kn' rk' b3 b4 → fn_C (fn_up c f (s + 8 * v)) → post (nI f) (pr', kn', rk', ls', lv', b1, b2, b3, b4)) : wpX_take post (pr, kn, rk, ls, lv, a1, a2, a3, a4) (nI s) (nI v) := by
  have T := fn_take42 (ls := ls) (lv := lv) hP hC hK hf h0 hs hs8 hv hn H10 Hrf Hok
  unfold wpX_take
  dsimp only
  unfold wpX_isSet
  refine pk_lt s 1 (fun z => absurd z (by omega)) (fun _ => pk_lt 255 s (fun z => absurd z (by omega)) (fun _ => ?_))
  refine br_f (by decide) (br_f (nI_pos (by omega)) (pk_le v 255 (fun _ => ?_) (fun z => absurd z (by omega))))
  refine pk_loop (σ := Unit) (fun n k _ => wX_take_22 post (nI s) (nI v) pr kn rk ls lv a1 a2 a3 a4 n (nI k)) (fun _ _ => True) f 0 () (by omega) trivial ?_ ?_
  · intro n _ _
    exact pk_le 10 f (fun _ => T) (fun z => fn_has hP (by omega) (fun y => absurd (h0 (by omega)) y) (fun _ => br_t rfl T))
  · intro n k _ hk _ hw
    exact pk_le 10 k (fun z => absurd z (by omega)) (fun z => fn_has hP (by omega) (fun _ => br_f (by decide) (nm_r (nI_1 k) (hw () trivial))) (fun y => absurd y (hfl k hk)))
end
end
section
/-! ===== 06: the law ===== -/
def fn_G (J13 : Int64 → Int32 → Int32 → Int32 → Int32 → Int32 → Int32 → (Nat → Int32) → (Nat → Int32) → (Nat → Int32) → (Nat → Int32) → Prop) (x4 : Int32) : Prop := ∀ x2 c pr kn rk ls lv a1 a2 a3 a4, fn_Ro x2 c → fn_P c pr a1 a2 → fn_C c → fn_K c kn rk a3 a4 → J13 x2 (x4 + 1) pr kn rk ls lv a1 a2 a3 a4
/-- all and part agree about the sets below t -/
def fn_E (c : Nat → Nat) (N t : Nat) : Prop := ∀ j, j < t → ∀ r r2, fn_kn (fn_Q c 1023) j r → fn_kn (fn_Q c N) j r2 → (r < 0 ↔ r2 < 0)
theorem fn_E1 (c : Nat → Nat) (N : Nat) : fn_E c N 1 := by
  intro j hj r r2 k k2
  have e : j = 0 := by omega
  subst e
  rw [fn_kn_neg k, fn_kn_neg k2]
  constructor
  · intro ⟨a, b, _, _, _, _, z⟩
    rw [fn_sm_0, fn_sm_0] at z
    exact absurd rfl z
  · intro ⟨a, b, _, _, _, _, z⟩
    rw [fn_sm_0, fn_sm_0] at z
    exact absurd rfl z
theorem fn_free (c : Nat → Nat) (m : Nat) : ∃ f, f ≤ m ∧ (∀ j, j < f → c j ≠ 0) ∧ (f < m → c f = 0) := by
  induction m with
  | zero => exact ⟨0, Nat.le_refl 0, fun j h => absurd h (by omega), fun h => absurd h (by omega)⟩
  | succ m ih =>
    obtain ⟨d, h1, h2, h3⟩ := ih
    by_cases hd : d < m
    · exact ⟨d, by omega, h2, fun _ => h3 hd⟩
    · by_cases he : c d = 0
      · exact ⟨d, by omega, h2, fun _ => he⟩
      · refine ⟨d + 1, by omega, fun j hj => ?_, fun h => absurd h (by omega)⟩
        by_cases e : j = d
        · rw [e]
          exact he
        · exact h2 j (by omega)
section
variable {post : Int32 → Prop} {L : Nat} {xs : Nat → Int32} {J13 : Int64 → Int32 → Int32 → Int32 → Int32 → Int32 → Int32 → (Nat → Int32) → (Nat → Int32) → (Nat → Int32) → (Nat → Int32) → Prop} {x2 : Int64} {x4 : Int32} {kc ks : Nat}
variable {c : Nat → Nat} {pr kn rk ls lv : Int32} {a1 a2 a3 a4 : Nat → Int32}
theorem fn_363 {J302 : Int32 → Int32 → Int32 → Int32 → Int32 → Int32 → Int32 → (Nat → Int32) → (Nat → Int32) → (Nat → Int32) → (Nat → Int32) → Prop} {x10 x12 x13 r z0 : Int32} {t : Nat} (hP : fn_P c pr a1 a2) (hC : fn_C c) (hK : fn_K c kn rk a3 a4) (ht : t < 8) (hr : fn_kn (fn_Q c 1023) t r)
    (H : ∀ kn' rk' ls' lv' b3 b4, fn_K c kn' rk' b3 b4 → J302 z0 (nI (t + 1)) pr kn' rk' ls' lv' a1 a2 b3 b4) : wL_law_363 post L xs J13 J302 x2 x4 x10 x12 x13 (nI t) r z0 kc ks pr kn rk ls lv a1 a2 a3 a4 := by
  unfold wL_law_363
  exact fn_sumX hP hC hK ht (fun r' kn' rk' ls' lv' b3 b4 h hK' => br_t (fn_kn_u hC.2 h hr) (nm_r (nI_1 t) (H _ _ _ _ _ _ hK')))
theorem fn_345 {J302 : Int32 → Int32 → Int32 → Int32 → Int32 → Int32 → Int32 → (Nat → Int32) → (Nat → Int32) → (Nat → Int32) → (Nat → Int32) → Prop} {x10 x12 x13 r r2 z0 : Int32} {t : Nat} (hP : fn_P c pr a1 a2) (hC : fn_C c) (hK : fn_K c kn rk a3 a4) (ht : t < 8) (hr : fn_kn (fn_Q c 1023) t r)
    (hz : (r < 0 ∧ z0 = 0) ∨ (¬ r < 0 ∧ z0 = 1))
    (H1 : (r < 0 ↔ r2 < 0) → ∀ kn' rk' ls' lv' b3 b4, fn_K c kn' rk' b3 b4 → J302 1 (nI (t + 1)) pr kn' rk' ls' lv' a1 a2 b3 b4)
    (H0 : ¬ (r < 0 ↔ r2 < 0) → ∀ kn' rk' ls' lv' b3 b4, fn_K c kn' rk' b3 b4 → J302 0 (nI (t + 1)) pr kn' rk' ls' lv' a1 a2 b3 b4) : wL_law_345 post L xs J13 J302 x2 x4 x10 x12 x13 (nI t) r r2 z0 kc ks pr kn rk ls lv a1 a2 a3 a4 := by
  unfold wL_law_345
  refine br_c (fun y => ?_) (fun y => ?_)
  · unfold wL_law_355
    rcases hz with ⟨h, rfl⟩ | ⟨h, rfl⟩
    · exact br_t rfl (fn_363 hP hC hK ht hr (H1 ⟨fun _ => y, fun _ => h⟩))
    · exact br_f (by decide) (fn_363 hP hC hK ht hr (H0 (fun z => h (z.mpr y))))
  · unfold wL_law_355
    rcases hz with ⟨h, rfl⟩ | ⟨h, rfl⟩
    · exact br_f (by decide) (fn_363 hP hC hK ht hr (H0 (fun z => y (z.mp h))))
    · exact br_t rfl (fn_363 hP hC hK ht hr (H1 ⟨fun z => absurd z h, fun z => absurd z y⟩))
theorem fn_442 {q z : Int32} (hRo : fn_Ro x2 c) (hP : fn_P c pr a1 a2) (hC : fn_C c) (hK : fn_K c kn rk a3 a4) (e : q = z) (HJ : fn_G J13 x4) : wL_law_442 post L xs J13 x2 x4 z q kc ks pr kn rk ls lv a1 a2 a3 a4 := by
  unfold wL_law_442
  exact br_t e (nm_e (HJ _ _ _ _ _ _ _ _ _ _ _ hRo hP hC hK))
theorem fn_end {v o N : Nat} {x14 : Int32} {n : Nat} (hRo : fn_Ro x2 c) (hP : fn_P c pr a1 a2) (hC : fn_C c) (hK : fn_K c kn rk a3 a4) (hv : v < 8) (ho : o < 8) (hE : (x14 = 1 ∧ fn_E c N 8) ∨ (x14 = 0 ∧ ¬ fn_E c N 8)) (HJ : fn_G J13 x4) :
    wL_law_302 post L xs J13 x2 x4 (nI v) (nI o) (nI N) kc ks (n + 1) x14 (nI 8) pr kn rk ls lv a1 a2 a3 a4 := by
  refine pk_le 8 8 (fun _ => ?_) (fun z => absurd z (by omega))
  refine fn_known (M := 1023) (t := 1) hRo hC.1 (by omega) (by omega) hC.2 (fun r hr => ?_)
  rw [show (8 : Int32) + nI o = nI (8 + o) from nI_add 8 o]
  refine fn_sum8 hP hC hK (by omega) (by omega) (fun kn1 rk1 ls1 lv1 b3 b4 hK1 => ?_)
  refine br_t rfl (fn_enough hP hC (fun q rk2 ls2 lv2 d3 d4 hq => ?_))
  have hqx : q = x14 := by
    rcases hE with ⟨e, h⟩ | ⟨e, h⟩
    · rcases hq with ⟨e', h'⟩ | ⟨e', h'⟩
      · rw [e, e']
      · exact absurd h h'
    · rcases hq with ⟨e', h'⟩ | ⟨e', h'⟩
      · exact absurd h' h
      · rw [e, e']
  refine br_t hqx (fn_possible hP hC (Or.inl rfl) hv (fun r' q' kn3 rk3 ls3 lv3 g3 g4 hr' hq' hK3 => ?_))
  have er : r' = r := fn_kn_u hC.2 hr' hr
  subst er
  refine br_c (fun z => ?_) (fun z => br_c (fun y => ?_) (fun y => ?_))
  · unfold wL_law_437
    rcases hq' with ⟨e, _⟩ | ⟨_, h⟩
    · exact fn_442 hRo hP hC hK3 e HJ
    · exact absurd (Or.inl z) h
  · unfold wL_law_437
    rcases hq' with ⟨e, _⟩ | ⟨_, h⟩
    · exact fn_442 hRo hP hC hK3 e HJ
    · exact absurd (Or.inr y) h
  · rcases hq' with ⟨_, h⟩ | ⟨e, _⟩
    · exact absurd h (fun x => x.elim z y)
    · exact fn_442 hRo hP hC hK3 e HJ
theorem fn_302 {v o N : Nat} (hRo : fn_Ro x2 c) (hP : fn_P c pr a1 a2) (hC : fn_C c) (hK : fn_K c kn rk a3 a4) (hv : v < 8) (ho : o < 8) (hN : N < 1024) (HJ : fn_G J13 x4) :
    ∃ fu302 : Nat, wL_law_302 post L xs J13 x2 x4 (nI v) (nI o) (nI N) kc ks fu302 1 1 pr kn rk ls lv a1 a2 a3 a4 := by
  refine pk_loop (fun n t (s : Int32 × Int32 × Int32 × Int32 × Int32 × (Nat → Int32) × (Nat → Int32)) => wL_law_302 post L xs J13 x2 x4 (nI v) (nI o) (nI N) kc ks n s.1 (nI t) pr s.2.1 s.2.2.1 s.2.2.2.1 s.2.2.2.2.1 a1 a2 s.2.2.2.2.2.1 s.2.2.2.2.2.2) (fun t s => fn_K c s.2.1 s.2.2.1 s.2.2.2.2.2.1 s.2.2.2.2.2.2 ∧ ((s.1 = 1 ∧ fn_E c N t) ∨ (s.1 = 0 ∧ ¬ fn_E c N t))) 8 1 (1, kn, rk, ls, lv, a3, a4) (by omega) ⟨hK, Or.inl ⟨rfl, fn_E1 c N⟩⟩ ?_ ?_
  · intro n s h
    exact fn_end hRo hP hC h.1 hv ho h.2 HJ
  · intro n t s ht h hw
    obtain ⟨x14, kn1, rk1, ls1, lv1, b3, b4⟩ := s
    obtain ⟨hK1, hE⟩ := h
    refine pk_le 8 t (fun z => absurd z (by omega)) (fun _ => ?_)
    refine fn_known (M := 1023) hRo hC.1 (by omega) ht hC.2 (fun r hr => ?_)
    refine fn_known hRo hC.1 (by omega) ht ?_ (fun r2 hr2 => ?_)
    · obtain ⟨m, hm, q⟩ := hC.2
      exact ⟨m, hm, fn_Q_all q N⟩
    · have E1 : fn_E c N t → (r < 0 ↔ r2 < 0) → fn_E c N (t + 1) := fun g z => lt_s g (fun r' r2' k k2 => by
        rw [fn_kn_neg k, fn_kn_neg k2, ← fn_kn_neg hr, ← fn_kn_neg hr2]
        exact z)
      have E0 : ¬ (r < 0 ↔ r2 < 0) → ¬ fn_E c N (t + 1) := fun z g => z (g t (by omega) r r2 hr hr2)
      have E2 : ¬ fn_E c N t → ¬ fn_E c N (t + 1) := fun z g => z (fun j hj => g j (by omega))
      rcases hE with ⟨rfl, g⟩ | ⟨rfl, g⟩
      · refine br_f (show ¬ (1 : Int32) = 0 by decide) ?_
        have K : ∀ z0 : Int32, ((r < 0 ∧ z0 = 0) ∨ (¬ r < 0 ∧ z0 = 1)) → wL_law_345 post L xs J13 (wL_law_302 post L xs J13 x2 x4 (nI v) (nI o) (nI N) kc ks n) x2 x4 (nI v) (nI o) (nI N) (nI t) r r2 z0 kc ks pr kn1 rk1 ls1 lv1 a1 a2 b3 b4 := fun z0 hz =>
          fn_345 hP hC hK1 ht hr hz (fun z kn' rk' ls' lv' d3 d4 hK' => hw (1, kn', rk', ls', lv', d3, d4) ⟨hK', Or.inl ⟨rfl, E1 g z⟩⟩) (fun z kn' rk' ls' lv' d3 d4 hK' => hw (0, kn', rk', ls', lv', d3, d4) ⟨hK', Or.inr ⟨rfl, E0 z⟩⟩)
        exact br_c (fun z => K 0 (Or.inl ⟨z, rfl⟩)) (fun z => K 1 (Or.inr ⟨z, rfl⟩))
      · refine br_t rfl ?_
        unfold wL_law_362
        exact fn_363 hP hC hK1 ht hr (fun kn' rk' ls' lv' d3 d4 hK' => hw (0, kn', rk', ls', lv', d3, d4) ⟨hK', Or.inr ⟨rfl, E2 g⟩⟩)
theorem fn_270 {x6 : Int32} {v : Nat} (hRo : fn_Ro x2 c) (hP : fn_P c pr a1 a2) (hC : fn_C c) (hK : fn_K c kn rk a3 a4) (hv : v < 8) (HJ : fn_G J13 x4) : wL_law_270 post L xs J13 x2 x4 x6 (nI v) kc ks pr kn rk ls lv a1 a2 a3 a4 := by
  unfold wL_law_270
  obtain ⟨a, ha, ea⟩ := pk_andE (x6 >>> ((3 : Int32) &&& 31)) (m := 255) 8 (by decide)
  obtain ⟨N, hN, eN⟩ := pk_andE (x6 >>> ((9 : Int32) &&& 31)) (m := 1023) 10 (by decide)
  rw [ea, eN]
  have e : 1 + (nI a - nI a / 7 * 7) = nI (1 + a % 7) := by
    show nI 1 + (nI a - nI a / nI 7 * nI 7) = _
    rw [pk_rem (by omega) (by omega) (by omega), nI_add]
  exact ⟨by decide, nm_r e (nm_e (fn_302 hRo hP hC hK hv (by omega) (by omega) HJ))⟩
theorem fn_133 {x5 x6 now : Int32} {s k v f : Nat} (hRo : fn_Ro x2 c) (hP : fn_P c pr a1 a2) (hC : fn_C c) (hK : fn_K c kn rk a3 a4) (hs : 0 < s) (hs8 : s < 8) (hk : k < 10) (hv : v < 8) (hn : fn_kn (fn_Q c 1023) s now) (hf : f ≤ 10) (hfl : ∀ j, j < f → c j ≠ 0) (h0 : f < 10 → c f = 0) (HJ : fn_G J13 x4) :
    wL_law_133 post L xs J13 x2 x4 x5 x6 (nI s) (nI k) now (nI v) (nI f) kc ks pr kn rk ls lv a1 a2 a3 a4 := by
  unfold wL_law_133
  refine br_c (fun _ => ?_) (fun _ => ?_)
  · have hc : c k < 64 := hC.1 k hk
    refine fn_drp hP hk (fun hz => ?_) (fun hz pr' hP' => ?_)
    · refine fn_wdrop hRo hC.1 hk (pk_eq (c k) 0 (fun _ => ?_) (fun z => absurd hz z))
      unfold wL_law_249
      have t := fn_clr hRo hk
      rw [fn_up_0 hz] at t
      exact br_t rfl (nm_e (fn_270 t hP hC hK hv HJ))
    · refine fn_wdrop hRo hC.1 hk (pk_eq (c k) 0 (fun z => absurd z hz) (fun _ => ?_))
      unfold wL_law_249
      exact br_t rfl (nm_e (fn_270 (fn_clr hRo hk) hP' (fn_drp_C hC) (Or.inl rfl) hv HJ))
  · refine fn_take hP hC hK hf hfl h0 hs hs8 hv hn (fun hz => ?_) (fun hz hn0 hnv kn' rk' ls' lv' b3 b4 hK' => ?_) (fun hz hnow pr' kn' rk' ls' lv' b1 b2 b3 b4 hP' hK' hC' => ?_)
    · refine pk_eq f 10 (fun _ => ?_) (fun z => absurd hz z)
      unfold wL_law_181
      refine br_t rfl (nm_e (br_t (by decide) ?_))
      unfold wL_law_221
      exact fn_270 hRo hP hC hK hv HJ
    · refine pk_eq f 10 (fun z => absurd z (by omega)) (fun _ => br_f hn0 (br_f hnv ?_))
      unfold wL_law_181
      refine br_t rfl (nm_e (br_t (by decide) ?_))
      unfold wL_law_221
      exact fn_270 hRo hP hC hK' hv HJ
    · have T : wL_law_179 post L xs J13 x2 x4 x6 (nI s) (nI v) (nI f) (nI f) kc ks pr' kn' rk' ls' lv' b1 b2 b3 b4 := by
        unfold wL_law_179 wL_law_181
        rw [fn_ce s hs8 v hv]
        refine br_t rfl (nm_e (br_f (nI_pos (by omega)) ?_))
        unfold wL_law_221
        exact fn_270 (fn_put hRo hz (h0 hz) (by omega)) hP' hC' hK' hv HJ
      refine pk_eq f 10 (fun z => absurd z (by omega)) (fun _ => br_c (fun _ => T) (fun y => br_c (fun _ => T) (fun y2 => ?_)))
      exact absurd hnow (fun z => z.elim y y2)
theorem fn_108 {x5 x6 now : Int32} {s k v : Nat} (hRo : fn_Ro x2 c) (hP : fn_P c pr a1 a2) (hC : fn_C c) (hK : fn_K c kn rk a3 a4) (hs : 0 < s) (hs8 : s < 8) (hk : k < 10) (hv : v < 8) (hn : fn_kn (fn_Q c 1023) s now) (HJ : fn_G J13 x4) :
    ∃ fu108 : Nat, wL_law_108 post L xs J13 x2 x4 x5 x6 (nI s) (nI k) now (nI v) kc ks pr kn rk ls lv a1 a2 a3 a4 fu108 0 := by
  obtain ⟨f, hf, hfl, h0⟩ := fn_free c 10
  have T : wL_law_133 post L xs J13 x2 x4 x5 x6 (nI s) (nI k) now (nI v) (nI f) kc ks pr kn rk ls lv a1 a2 a3 a4 := fn_133 hRo hP hC hK hs hs8 hk hv hn hf hfl h0 HJ
  refine pk_loop (σ := Unit) (fun n j _ => wL_law_108 post L xs J13 x2 x4 x5 x6 (nI s) (nI k) now (nI v) kc ks pr kn rk ls lv a1 a2 a3 a4 n (nI j)) (fun _ _ => True) f 0 () (by omega) trivial ?_ ?_
  · intro n _ _
    exact pk_le 10 f (fun _ => T) (fun z => fn_wdrop hRo hC.1 (by omega) (br_t (by rw [h0 z]; rfl) T))
  · intro n j _ hj _ hw
    have hc : c j < 64 := hC.1 j (by omega)
    exact pk_le 10 j (fun z => absurd z (by omega)) (fun z => fn_wdrop hRo hC.1 (by omega) (pk_eq (c j) 0 (fun y => absurd y (hfl j hj)) (fun _ => nm_r (nI_1 j) (hw () trivial))))
end
theorem fn_law13 (xs : Nat → Int32) (L : Nat) (hL : L ≤ 260) (kc ks : Nat) : ∃ fu13 : Nat, wL_law_13 (fun r => r = 1) L xs kc ks fu13 0 0 0 0 0 0 0 (fun _ => 0) (fun _ => 0) (fun _ => 0) (fun _ => 0) := by
  have i0 : fn_Ro 0 (fun _ => 0) ∧ fn_P (fun _ => 0) 0 (fun _ => 0) (fun _ => 0) ∧ fn_C (fun _ => 0) ∧ fn_K (fun _ => 0) 0 0 (fun _ => 0) (fun _ => 0) :=
    ⟨fn_Ro_0, ⟨0, by omega, rfl, fun k _ => by rw [Nat.zero_testBit]; exact ⟨fun z => absurd z (by decide), fun z => absurd rfl z⟩, fun k _ h => absurd rfl h⟩, ⟨fun k _ => by show 0 < 64; omega, 0, by omega, fun k _ h => absurd rfl h⟩, Or.inl rfl⟩
  refine pk_loop (fun n i (s : Int64 × Int32 × Int32 × Int32 × Int32 × Int32 × (Nat → Int32) × (Nat → Int32) × (Nat → Int32) × (Nat → Int32)) => wL_law_13 (fun r => r = 1) L xs kc ks n s.1 (nI i) s.2.1 s.2.2.1 s.2.2.2.1 s.2.2.2.2.1 s.2.2.2.2.2.1 s.2.2.2.2.2.2.1 s.2.2.2.2.2.2.2.1 s.2.2.2.2.2.2.2.2.1 s.2.2.2.2.2.2.2.2.2) (fun i s => ∃ c, fn_Ro s.1 c ∧ fn_P c s.2.1 s.2.2.2.2.2.2.1 s.2.2.2.2.2.2.2.1 ∧ fn_C c ∧ fn_K c s.2.2.1 s.2.2.2.1 s.2.2.2.2.2.2.2.2.1 s.2.2.2.2.2.2.2.2.2) L 0 (0, 0, 0, 0, 0, 0, fun _ => 0, fun _ => 0, fun _ => 0, fun _ => 0) (by omega) ⟨_, i0⟩ ?_ ?_
  · intro n s _
    exact pk_le L L (fun _ => rfl) (fun z => absurd z (by omega))
  · intro n i s hi h hw
    obtain ⟨x2, pr, kn, rk, ls, lv, a1, a2, a3, a4⟩ := s
    obtain ⟨c, hRo, hP, hC, hK⟩ := h
    have HJ : fn_G (wL_law_13 (fun r => r = 1) L xs kc ks n) (nI i) := by
      intro x2' c' pr' kn' rk' ls' lv' b1 b2 b3 b4 h1 h2 h3 h4
      rw [nI_1]
      exact hw (x2', pr', kn', rk', ls', lv', b1, b2, b3, b4) ⟨c', h1, h2, h3, h4⟩
    refine pk_le L i (fun z => absurd z (by omega)) (fun _ => ⟨pk_in i L hi, nm_e ⟨pk_in i L hi, nm_e ⟨by decide, ?_⟩⟩⟩)
    generalize xs (nI i).toNatClampNeg >>> ((4 : Int32) &&& 31) = x6
    obtain ⟨a, ha, ea⟩ := pk_andE x6 (m := 255) 8 (by decide)
    obtain ⟨b, hb, eb⟩ := pk_andE (x6 >>> ((8 : Int32) &&& 31)) (m := 255) 8 (by decide)
    have e7 : 1 + ((x6 &&& 255) - (x6 &&& 255) / 7 * 7) = nI (1 + a % 7) := by
      rw [ea]
      show nI 1 + (nI a - nI a / nI 7 * nI 7) = _
      rw [pk_rem (by omega) (by omega) (by omega), nI_add]
    have e10 : ((x6 >>> ((8 : Int32) &&& 31)) &&& 255) - ((x6 >>> ((8 : Int32) &&& 31)) &&& 255) / 10 * 10 = nI (b % 10) := by
      rw [eb]
      exact pk_rem (d := 10) (by omega) (by omega) (by omega)
    refine nm_r e7 ⟨by decide, nm_r e10 (fn_known (M := 1023) hRo hC.1 (by omega) (by omega) hC.2 (fun r hr => ?_))⟩
    have T95 : wL_law_95 (fun r => r = 1) L xs (wL_law_13 (fun r => r = 1) L xs kc ks n) x2 (nI i) (xs (nI i).toNatClampNeg &&& 15) x6 (nI (1 + a % 7)) (nI (b % 10)) r kc ks pr kn rk ls lv a1 a2 a3 a4 := by
      unfold wL_law_95
      obtain ⟨v, hv, ev⟩ := pk_andE (x6 >>> ((16 : Int32) &&& 31)) (m := 7) 3 (by decide)
      exact nm_r ev (fn_108 hRo hP hC hK (by omega) (by omega) (by omega) (by omega) hr HJ)
    refine br_c (fun _ => T95) (fun z => br_c (fun _ => T95) (fun _ => ?_))
    have hr' := hr
    rcases hr with ⟨w, hw8, rfl, _⟩ | ⟨rfl, _⟩
    · exact fn_108 hRo hP hC hK (by omega) (by omega) (by omega) hw8 hr' HJ
    · exact absurd (by decide) z
theorem i_vc (xs : Nat → Int32) (L : Nat) (hL : L ≤ 260) : wpL_law (fun r => r = 1) L xs :=
  ⟨4, 36, by omega, by omega, by omega, by omega, by omega, by omega, by omega, by omega, by omega, by omega, fn_law13 xs L hL _ _⟩
end
