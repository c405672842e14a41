section
/-! ===== ints as Int32 ===== -/
def bk_I (x : Int) : Int32 := Int32.ofInt x
theorem bk_I_add (x y : Int) : bk_I x + bk_I y = bk_I (x + y) := (Int32.ofInt_add x y).symm
theorem bk_I_sub (x y : Int) : bk_I x - bk_I y = bk_I (x - y) := (Int32.ofInt_sub x y).symm
theorem bk_I_neg (x : Int) : -bk_I x = bk_I (-x) := (Int32.ofInt_neg x).symm
theorem bk_I_n (n : Nat) : nI n = bk_I (n : Int) := Int32.ofInt_eq_ofNat.symm
theorem bk_I_t {x : Int} (h : -2147483648 ≤ x) (h2 : x < 2147483648) : (bk_I x).toInt = x := Int32.toInt_ofInt_of_le h h2
theorem bk_I_le {x y : Int} (hx : -2147483648 ≤ x) (hx2 : x < 2147483648) (hy : -2147483648 ≤ y) (hy2 : y < 2147483648) : bk_I x ≤ bk_I y ↔ x ≤ y := by
  rw [Int32.le_iff_toInt_le, bk_I_t hx hx2, bk_I_t hy hy2]
theorem bk_I_lt {x y : Int} (hx : -2147483648 ≤ x) (hx2 : x < 2147483648) (hy : -2147483648 ≤ y) (hy2 : y < 2147483648) : bk_I x < bk_I y ↔ x < y := by
  rw [Int32.lt_iff_toInt_lt, bk_I_t hx hx2, bk_I_t hy hy2]
theorem bk_I_eq {x y : Int} (hx : -2147483648 ≤ x) (hx2 : x < 2147483648) (hy : -2147483648 ≤ y) (hy2 : y < 2147483648) : bk_I x = bk_I y ↔ x = y := by
  rw [← Int32.toInt_inj, bk_I_t hx hx2, bk_I_t hy hy2]
theorem bk_I_m1 (e : Nat) : nI e - 1 = bk_I ((e : Int) - 1) := by
  rw [bk_I_n, ← bk_I_sub]
  rfl
/-! ===== sums of a stretch, the least running sum ===== -/
def bk_sg (f : Nat → Int) (s : Nat) : Nat → Int
  | 0 => 0
  | n + 1 => bk_sg f s n + f (s + n)
def bk_lo (f : Nat → Int) (s : Nat) : Nat → Int
  | 0 => 2147483647
  | n + 1 => min (bk_lo f s n) (bk_sg f s (n + 1))
theorem bk_sg_app (f : Nat → Int) (s m : Nat) : ∀ n, bk_sg f s (m + n) = bk_sg f s m + bk_sg f (s + m) n := by
  intro n
  induction n with
  | zero => simp [bk_sg]
  | succ n ih =>
    show bk_sg f s (m + n) + f (s + (m + n)) = bk_sg f s m + (bk_sg f (s + m) n + f (s + m + n))
    rw [ih, Nat.add_assoc s m n]
    omega
def bk_bd (f : Nat → Int) : Prop := ∀ s k, -600000 ≤ bk_sg f s k ∧ bk_sg f s k ≤ 600000
theorem bk_lo_hi (f : Nat → Int) (s : Nat) : ∀ n, bk_lo f s n ≤ 2147483647 := by
  intro n
  induction n with
  | zero => exact Int.le_refl _
  | succ n ih =>
    show min (bk_lo f s n) (bk_sg f s (n + 1)) ≤ 2147483647
    omega
theorem bk_lo_lo {f : Nat → Int} (h : bk_bd f) (s : Nat) : ∀ n, -600000 ≤ bk_lo f s n := by
  intro n
  induction n with
  | zero => show (-600000 : Int) ≤ 2147483647; omega
  | succ n ih =>
    have := (h s (n + 1)).1
    show -600000 ≤ min (bk_lo f s n) (bk_sg f s (n + 1))
    omega
theorem bk_lo_1 {f : Nat → Int} (h : bk_bd f) (s n : Nat) : bk_lo f s (n + 1) ≤ 600000 := by
  have := (h s (n + 1)).2
  show min (bk_lo f s n) (bk_sg f s (n + 1)) ≤ 600000
  omega
theorem bk_lo_app {f : Nat → Int} (h : bk_bd f) (s m : Nat) : ∀ n, bk_lo f s (m + (n + 1)) = min (bk_lo f s m) (bk_sg f s m + bk_lo f (s + m) (n + 1)) := by
  intro n
  induction n with
  | zero =>
    have h1 := bk_sg_app f s m 1
    have h2 := (h (s + m) 1).2
    show min (bk_lo f s m) (bk_sg f s (m + 1)) = min (bk_lo f s m) (bk_sg f s m + min 2147483647 (bk_sg f (s + m) 1))
    omega
  | succ n ih =>
    have h1 := bk_sg_app f s m (n + 1 + 1)
    show min (bk_lo f s (m + (n + 1))) (bk_sg f s (m + (n + 1 + 1))) = min (bk_lo f s m) (bk_sg f s m + min (bk_lo f (s + m) (n + 1)) (bk_sg f (s + m) (n + 1 + 1)))
    omega
/-- the least running sum is at least x: every running sum is -/
theorem bk_lo_ge (f : Nat → Int) (s : Nat) (x : Int) (hx : x ≤ 2147483647) : ∀ n, x ≤ bk_lo f s n ↔ ∀ k, k < n → x ≤ bk_sg f s (k + 1) := by
  intro n
  induction n with
  | zero => exact ⟨fun _ k hk => absurd hk (Nat.not_lt_zero k), fun _ => hx⟩
  | succ n ih =>
    show x ≤ min (bk_lo f s n) (bk_sg f s (n + 1)) ↔ _
    constructor
    · intro h k hk
      by_cases e : k = n
      · rw [e]; omega
      · exact ih.mp (by omega) k (by omega)
    · intro h
      have h1 := ih.mpr (fun k hk => h k (by omega))
      have h2 := h n (by omega)
      omega
theorem bk_sg_congr {f g : Nat → Int} (s : Nat) : ∀ n, (∀ d, f d = g d) → bk_sg f s n = bk_sg g s n := by
  intro n h
  induction n with
  | zero => rfl
  | succ n ih =>
    show bk_sg f s n + f (s + n) = bk_sg g s n + g (s + n)
    rw [ih, h]
/-- one day's change -/
theorem bk_sg_pt (f : Nat → Int) (d : Nat) (x : Int) (s : Nat) : ∀ n, bk_sg (fun d' => f d' + (if d' = d then x else 0)) s n = bk_sg f s n + (if s ≤ d ∧ d < s + n then x else 0) := by
  intro n
  induction n with
  | zero =>
    show (0 : Int) = 0 + (if s ≤ d ∧ d < s + 0 then x else 0)
    rw [if_neg (by omega)]
    rfl
  | succ n ih =>
    show bk_sg (fun d' => f d' + (if d' = d then x else 0)) s n + (f (s + n) + (if s + n = d then x else 0)) = bk_sg f s n + f (s + n) + (if s ≤ d ∧ d < s + (n + 1) then x else 0)
    rw [ih]
    by_cases e : s + n = d
    · rw [if_pos e, if_neg (by omega), if_pos (by omega)]
      omega
    · rw [if_neg e]
      by_cases e2 : s ≤ d ∧ d < s + n
      · rw [if_pos e2, if_pos (by omega)]
        omega
      · rw [if_neg e2, if_neg (by omega)]
        omega
/-! ===== the tree: each inner node agrees with the two below it, each leaf with F ===== -/
def bk_N (a6 a7 : Nat → Int32) (b v : Nat) : Prop :=
  a6 (b + v) = a6 (b + 2 * v) + a6 (b + 2 * v + 1) ∧ a7 (b + v) = if a6 (b + 2 * v) + a7 (b + 2 * v + 1) ≤ a7 (b + 2 * v) then a6 (b + 2 * v) + a7 (b + 2 * v + 1) else a7 (b + 2 * v)
def bk_T (F : Nat → Nat → Int) (a6 a7 : Nat → Int32) : Prop := ∀ a, a < 4 →
  (∀ d, d < 64 → a6 (128 * a + (64 + d)) = bk_I (F a d) ∧ a7 (128 * a + (64 + d)) = bk_I (F a d)) ∧ (∀ v, 0 < v → v < 64 → bk_N a6 a7 (128 * a) v)
theorem bk_node {F : Nat → Nat → Int} {a6 a7 : Nat → Int32} {a : Nat} (hT : bk_T F a6 a7) (ha : a < 4) (hb : bk_bd (F a)) : ∀ h s v, v * 2 ^ h = 64 + s → s + 2 ^ h ≤ 64 →
    a6 (128 * a + v) = bk_I (bk_sg (F a) s (2 ^ h)) ∧ a7 (128 * a + v) = bk_I (bk_lo (F a) s (2 ^ h)) := by
  obtain ⟨hl, hn⟩ := hT a ha
  intro h
  induction h with
  | zero =>
    intro s v hv hs
    have e : v = 64 + s := by omega
    obtain ⟨h1, h2⟩ := hl s (by omega)
    have hb1 := (hb s 1).2
    have e1 : bk_sg (F a) s 1 = F a s := by
      show 0 + F a (s + 0) = F a s
      rw [Nat.add_zero]
      omega
    rw [e1] at hb1
    have e2 : bk_lo (F a) s 1 = F a s := by
      show min 2147483647 (bk_sg (F a) s 1) = F a s
      rw [e1]
      omega
    rw [e]
    show _ = bk_I (bk_sg (F a) s 1) ∧ _ = bk_I (bk_lo (F a) s 1)
    rw [e1, e2]
    exact ⟨h1, h2⟩
  | succ h ih =>
    intro s v hv hs
    obtain ⟨q, hq⟩ : ∃ q, q + 1 = 2 ^ h := ⟨2 ^ h - 1, by have := Nat.two_pow_pos h; omega⟩
    have hp : 2 ^ (h + 1) = 2 ^ h + 2 ^ h := by rw [Nat.pow_succ]; omega
    rw [hp] at hv hs ⊢
    have hv2 : v * (2 ^ h + 2 ^ h) = v * 2 ^ h + v * 2 ^ h := Nat.mul_add _ _ _
    have e1 : 2 * v * 2 ^ h = 64 + s := by rw [Nat.mul_assoc]; omega
    have e2 : (2 * v + 1) * 2 ^ h = 64 + (s + 2 ^ h) := by rw [Nat.add_mul, e1]; omega
    have v0 : 0 < v := by
      rcases Nat.eq_zero_or_pos v with z | z
      · rw [z] at hv; omega
      · exact z
    have v1 : v < 64 := by
      rcases Nat.lt_or_ge v 64 with z | z
      · exact z
      · have := Nat.mul_le_mul z (Nat.le_refl (2 ^ h + 2 ^ h))
        omega
    obtain ⟨l1, l2⟩ := ih s (2 * v) e1 (by omega)
    obtain ⟨r1, r2⟩ := ih (s + 2 ^ h) (2 * v + 1) e2 (by omega)
    obtain ⟨n1, n2⟩ := hn v v0 v1
    rw [show 128 * a + 2 * v + 1 = 128 * a + (2 * v + 1) by omega] at n1 n2
    rw [l1, r1, bk_I_add] at n1
    rw [l1, l2, r2, bk_I_add] at n2
    have g1 := hb s (2 ^ h)
    have g2 := bk_lo_1 hb (s + 2 ^ h) q
    have g3 := bk_lo_lo hb (s + 2 ^ h) (2 ^ h)
    have g4 := bk_lo_1 hb s q
    have g5 := bk_lo_lo hb s (2 ^ h)
    have g6 := bk_lo_app hb s (2 ^ h) q
    rw [hq] at g2 g4 g6
    refine ⟨by rw [n1, bk_sg_app], ?_⟩
    have hc : bk_I (bk_sg (F a) s (2 ^ h) + bk_lo (F a) (s + 2 ^ h) (2 ^ h)) ≤ bk_I (bk_lo (F a) s (2 ^ h)) ↔ bk_sg (F a) s (2 ^ h) + bk_lo (F a) (s + 2 ^ h) (2 ^ h) ≤ bk_lo (F a) s (2 ^ h) := bk_I_le (by omega) (by omega) (by omega) (by omega)
    rw [n2, g6]
    by_cases c : bk_sg (F a) s (2 ^ h) + bk_lo (F a) (s + 2 ^ h) (2 ^ h) ≤ bk_lo (F a) s (2 ^ h)
    · rw [if_pos (hc.mpr c), Int.min_eq_right c]
    · rw [if_neg (fun z => c (hc.mp z)), Int.min_eq_left (by omega)]
/-! ===== the widest node, and that a walk ends within its steps ===== -/
def bk_wd (t e : Nat) : Nat → Nat → Nat
  | 0, h => h
  | f + 1, h => if t / 2 ^ h % 2 = 0 ∧ t + 2 * 2 ^ h ≤ e then bk_wd t e f (h + 1) else h
def bk_ws (e : Nat) : Nat → Nat → Bool
  | 0, t => decide (e ≤ t)
  | k + 1, t => if e ≤ t then true else bk_ws e k (t + 2 ^ bk_wd t e 6 0)
theorem bk_ws_a : ∀ d, d < 49 → bk_ws d 14 0 = true := by decide +kernel
theorem bk_ws_b : ∀ d, d < 48 → bk_ws 48 14 d = true := by decide +kernel
theorem bk_wd_ok (t e : Nat) : ∀ f h, (∃ q, t = q * 2 ^ h) → t + 2 ^ h ≤ e → (∃ q, t = q * 2 ^ bk_wd t e f h) ∧ t + 2 ^ bk_wd t e f h ≤ e ∧ bk_wd t e f h ≤ h + f := by
  intro f
  induction f with
  | zero => exact fun h h1 h2 => ⟨h1, h2, Nat.le_refl _⟩
  | succ f ih =>
    intro h h1 h2
    show (∃ q, t = q * 2 ^ (if t / 2 ^ h % 2 = 0 ∧ t + 2 * 2 ^ h ≤ e then bk_wd t e f (h + 1) else h)) ∧ t + 2 ^ (if t / 2 ^ h % 2 = 0 ∧ t + 2 * 2 ^ h ≤ e then bk_wd t e f (h + 1) else h) ≤ e ∧ (if t / 2 ^ h % 2 = 0 ∧ t + 2 * 2 ^ h ≤ e then bk_wd t e f (h + 1) else h) ≤ h + (f + 1)
    by_cases c : t / 2 ^ h % 2 = 0 ∧ t + 2 * 2 ^ h ≤ e
    · rw [if_pos c]
      have hp : 2 ^ (h + 1) = 2 * 2 ^ h := by rw [Nat.pow_succ]; omega
      obtain ⟨r1, r2, r3⟩ := ih (h + 1) (by
        obtain ⟨q, hq⟩ := h1
        have hd : t / 2 ^ h = q := by rw [hq]; exact Nat.mul_div_cancel q (Nat.two_pow_pos h)
        rw [hd] at c
        refine ⟨q / 2, ?_⟩
        have : q = q / 2 * 2 := by omega
        rw [hp, ← Nat.mul_assoc, ← this]
        exact hq) (by rw [hp]; exact c.2)
      exact ⟨r1, r2, by omega⟩
    · rw [if_neg c]
      exact ⟨h1, h2, by omega⟩
theorem bk_sl : ∀ n, n < 32 → ((nI n &&& 31).toBitVec.smod 32).toNat = n := by decide +kernel
end
section
/-! ===== the picture: count, account, day, amount, gone, floors ===== -/
abbrev bk_P : Type := Nat × (Nat → Nat) × (Nat → Nat) × (Nat → Int) × (Nat → Bool) × (Nat → Int)
def bk_n (P : bk_P) : Nat := P.1
def bk_A (P : bk_P) : Nat → Nat := P.2.1
def bk_D (P : bk_P) : Nat → Nat := P.2.2.1
def bk_M (P : bk_P) : Nat → Int := P.2.2.2.1
def bk_G (P : bk_P) : Nat → Bool := P.2.2.2.2.1
def bk_F (P : bk_P) : Nat → Int := P.2.2.2.2.2
def bk_u {α : Type} (f : Nat → α) (k : Nat) (x : α) : Nat → α := fun j => if j = k then x else f j
theorem bk_us {α : Type} (f : Nat → α) (k : Nat) (x : α) : bk_u f k x k = x := if_pos rfl
theorem bk_un {α : Type} {f : Nat → α} {k j : Nat} {x : α} (h : j ≠ k) : bk_u f k x j = f j := if_neg h
theorem bk_uu {α : Type} (f : Nat → α) (k : Nat) (x y : α) : bk_u (bk_u f k x) k y = bk_u f k y := by
  funext j
  by_cases e : j = k
  · rw [e, bk_us, bk_us]
  · rw [bk_un e, bk_un e, bk_un e]
theorem bk_ur {α : Type} (f : Nat → α) (k : Nat) (x : α) (h : f k = x) : bk_u f k x = f := by
  funext j
  by_cases e : j = k
  · rw [e, bk_us, h]
  · rw [bk_un e]
def bk_pt (F : Nat → Nat → Int) (a d : Nat) (x : Int) : Nat → Nat → Int := fun a' d' => F a' d' + (if a' = a ∧ d' = d then x else 0)
theorem bk_pt_comm (F : Nat → Nat → Int) (a d : Nat) (x : Int) (a2 d2 : Nat) (x2 : Int) : bk_pt (bk_pt F a d x) a2 d2 x2 = bk_pt (bk_pt F a2 d2 x2) a d x := by
  funext i j
  show F i j + _ + _ = F i j + _ + _
  omega
theorem bk_pt_inv (F : Nat → Nat → Int) (a d : Nat) (x y : Int) (h : x + y = 0) : bk_pt (bk_pt F a d x) a d y = F := by
  funext i j
  show F i j + (if i = a ∧ j = d then x else 0) + (if i = a ∧ j = d then y else 0) = F i j
  by_cases e : i = a ∧ j = d
  · rw [if_pos e, if_pos e]; omega
  · rw [if_neg e, if_neg e]; omega
theorem bk_sg_ptF (F : Nat → Nat → Int) (a d : Nat) (x : Int) (i s n : Nat) : bk_sg (bk_pt F a d x i) s n = bk_sg (F i) s n + (if i = a ∧ s ≤ d ∧ d < s + n then x else 0) := by
  by_cases e : i = a
  · have e1 : bk_pt F a d x i = fun d' => F i d' + (if d' = d then x else 0) := by
      funext j
      show F i j + (if i = a ∧ j = d then x else 0) = F i j + (if j = d then x else 0)
      by_cases e2 : j = d
      · rw [if_pos ⟨e, e2⟩, if_pos e2]
      · rw [if_neg (fun z => e2 z.2), if_neg e2]
    rw [e1, bk_sg_pt]
    by_cases e3 : s ≤ d ∧ d < s + n
    · rw [if_pos e3, if_pos ⟨e, e3⟩]
    · rw [if_neg e3, if_neg (fun z => e3 z.2)]
  · rw [if_neg (fun z => e z.1)]
    have e1 : bk_pt F a d x i = F i := by
      funext j
      show F i j + (if i = a ∧ j = d then x else 0) = F i j
      rw [if_neg (fun z => e z.1)]
      omega
    rw [e1]
    omega
/-- the leaves, built by one entry behind another -/
def bk_lf (A D : Nat → Nat) (M : Nat → Int) (G : Nat → Bool) : Nat → Nat → Nat → Int
  | 0 => fun _ _ => 0
  | n + 1 => if G n = true then bk_lf A D M G n else bk_pt (bk_lf A D M G n) (A n) (D n) (M n)
theorem bk_lf_t {A D : Nat → Nat} {M : Nat → Int} {G : Nat → Bool} {n : Nat} (h : G n = true) : bk_lf A D M G (n + 1) = bk_lf A D M G n := if_pos h
theorem bk_lf_f {A D : Nat → Nat} {M : Nat → Int} {G : Nat → Bool} {n : Nat} (h : G n = false) : bk_lf A D M G (n + 1) = bk_pt (bk_lf A D M G n) (A n) (D n) (M n) := if_neg (by rw [h]; decide)
theorem bk_lf_congr {A D A' D' : Nat → Nat} {M M' : Nat → Int} {G G' : Nat → Bool} : ∀ n, (∀ e, e < n → A e = A' e ∧ D e = D' e ∧ M e = M' e ∧ G e = G' e) → bk_lf A D M G n = bk_lf A' D' M' G' n := by
  intro n
  induction n with
  | zero => exact fun _ => rfl
  | succ n ih =>
    intro h
    obtain ⟨h1, h2, h3, h4⟩ := h n (by omega)
    have h5 := ih (fun e he => h e (by omega))
    show (if G n = true then bk_lf A D M G n else bk_pt (bk_lf A D M G n) (A n) (D n) (M n)) = (if G' n = true then bk_lf A' D' M' G' n else bk_pt (bk_lf A' D' M' G' n) (A' n) (D' n) (M' n))
    rw [h1, h2, h3, h4, h5]
theorem bk_lf_flip {A D : Nat → Nat} {M : Nat → Int} {G : Nat → Bool} {e : Nat} : ∀ n, e < n → bk_lf A D M (bk_u G e false) n = bk_pt (bk_lf A D M (bk_u G e true) n) (A e) (D e) (M e) := by
  intro n
  induction n with
  | zero => exact fun h => absurd h (Nat.not_lt_zero e)
  | succ n ih =>
    intro h
    by_cases c : e = n
    · subst c
      rw [bk_lf_f (bk_us G e false), bk_lf_t (bk_us G e true)]
      rw [bk_lf_congr (G := bk_u G e false) (G' := bk_u G e true) e (fun j hj => ⟨rfl, rfl, rfl, by rw [bk_un (by omega), bk_un (by omega)]⟩)]
    · have h2 := ih (by omega)
      have g1 : bk_u G e false n = G n := bk_un (by omega)
      have g2 : bk_u G e true n = G n := bk_un (by omega)
      rcases Bool.eq_false_or_eq_true (G n) with g | g
      · rw [bk_lf_t (by rw [g1, g]), bk_lf_t (by rw [g2, g]), h2]
      · rw [bk_lf_f (by rw [g1, g]), bk_lf_f (by rw [g2, g]), h2, bk_pt_comm]
theorem bk_sg_0 (s : Nat) : ∀ k, bk_sg (fun _ => 0) s k = 0 := by
  intro k
  induction k with
  | zero => rfl
  | succ k ih =>
    show bk_sg (fun _ => 0) s k + 0 = 0
    rw [ih]
    rfl
theorem bk_lf_bd {A D : Nat → Nat} {M : Nat → Int} {G : Nat → Bool} (a : Nat) : ∀ n : Nat, (∀ e, e < n → -10000 ≤ M e ∧ M e ≤ 10000) → ∀ s k, -(10000 * (n : Int)) ≤ bk_sg (bk_lf A D M G n a) s k ∧ bk_sg (bk_lf A D M G n a) s k ≤ 10000 * (n : Int) := by
  intro n
  induction n with
  | zero =>
    intro _ s k
    have : bk_sg (bk_lf A D M G 0 a) s k = 0 := bk_sg_0 s k
    rw [this]
    omega
  | succ n ih =>
    intro h s k
    have h1 := ih (fun e he => h e (by omega)) s k
    have h2 := h n (by omega)
    rcases Bool.eq_false_or_eq_true (G n) with g | g
    · rw [bk_lf_t g]
      omega
    · rw [bk_lf_f g, bk_sg_ptF]
      by_cases c : a = A n ∧ s ≤ D n ∧ D n < s + k
      · rw [if_pos c]; omega
      · rw [if_neg c]; omega
def bk_L (P : bk_P) : Nat → Nat → Int := bk_lf (bk_A P) (bk_D P) (bk_M P) (bk_G P) (bk_n P)
/-- a picture within its bounds -/
def bk_W (P : bk_P) : Prop := bk_n P ≤ 60 ∧ (∀ e, e < bk_n P → bk_A P e < 4 ∧ bk_D P e < 48 ∧ -10000 ≤ bk_M P e ∧ bk_M P e ≤ 10000) ∧ (∀ a, a < 4 → -10000 ≤ bk_F P a ∧ bk_F P a ≤ 10000)
theorem bk_L_bd {P : bk_P} (h : bk_W P) (a : Nat) : bk_bd (bk_L P a) := by
  intro s k
  have h1 := bk_lf_bd (A := bk_A P) (D := bk_D P) (M := bk_M P) (G := bk_G P) a (bk_n P) (fun e he => (h.2.1 e he).2.2) s k
  have h2 := h.1
  have h3 : bk_sg (bk_L P a) s k = bk_sg (bk_lf (bk_A P) (bk_D P) (bk_M P) (bk_G P) (bk_n P) a) s k := rfl
  rw [h3]
  omega
/-- sound: no balance below its floor -/
def bk_okF (F : Nat → Nat → Int) (Fl : Nat → Int) : Prop := ∀ a, a < 4 → ∀ k, k < 48 → Fl a ≤ bk_sg (F a) 0 (k + 1)
def bk_ok (P : bk_P) : Prop := bk_okF (bk_L P) (bk_F P)
def bk_low (f : Nat → Int) (d : Nat) : Int := bk_sg f 0 d + bk_lo f d (48 - d)
def bk_be (P : bk_P) (a d : Nat) (x : Int) : Prop := 0 < x ∨ bk_F P a ≤ bk_low (bk_L P a) d + x
theorem bk_ok_pt {F : Nat → Nat → Int} {Fl : Nat → Int} {a d : Nat} {x : Int} (h : bk_okF F Fl) (hb : 0 < x ∨ Fl a ≤ bk_low (F a) d + x) : bk_okF (bk_pt F a d x) Fl := by
  intro i hi k hk
  have h1 := h i hi k hk
  rw [bk_sg_ptF]
  by_cases c : i = a ∧ 0 ≤ d ∧ d < 0 + (k + 1)
  · rw [if_pos c]
    rcases hb with z | z
    · omega
    · obtain ⟨rfl, _, c2⟩ := c
      have h2 := (bk_lo_ge (F i) d (bk_lo (F i) d (48 - d)) (bk_lo_hi _ _ _) (48 - d)).mp (Int.le_refl _) (k - d) (by omega)
      have h3 := bk_sg_app (F i) 0 d (k - d + 1)
      rw [show d + (k - d + 1) = k + 1 by omega, Nat.zero_add] at h3
      have z' : Fl i ≤ bk_sg (F i) 0 d + bk_lo (F i) d (48 - d) + x := z
      omega
  · rw [if_neg c]
    omega
/-! ===== what the calls make of a picture ===== -/
def bk_en (P : bk_P) (a d : Nat) (x : Int) : bk_P := (bk_n P + 1, bk_u (bk_A P) (bk_n P) a, bk_u (bk_D P) (bk_n P) d, bk_u (bk_M P) (bk_n P) x, bk_u (bk_G P) (bk_n P) false, bk_F P)
def bk_cn (P : bk_P) (e : Nat) : bk_P := (bk_n P, bk_A P, bk_D P, bk_M P, bk_u (bk_G P) e true, bk_F P)
def bk_fl (P : bk_P) (a : Nat) (f : Int) : bk_P := (bk_n P, bk_A P, bk_D P, bk_M P, bk_G P, bk_u (bk_F P) a f)
theorem bk_L_en (P : bk_P) (a d : Nat) (x : Int) : bk_L (bk_en P a d x) = bk_pt (bk_L P) a d x := by
  show bk_lf (bk_u (bk_A P) (bk_n P) a) (bk_u (bk_D P) (bk_n P) d) (bk_u (bk_M P) (bk_n P) x) (bk_u (bk_G P) (bk_n P) false) (bk_n P + 1) = _
  rw [bk_lf_f (bk_us _ _ _), bk_us, bk_us, bk_us]
  rw [bk_lf_congr (A := bk_u (bk_A P) (bk_n P) a) (D := bk_u (bk_D P) (bk_n P) d) (M := bk_u (bk_M P) (bk_n P) x) (G := bk_u (bk_G P) (bk_n P) false) (A' := bk_A P) (D' := bk_D P) (M' := bk_M P) (G' := bk_G P) (bk_n P) (fun j hj => ⟨bk_un (by omega), bk_un (by omega), bk_un (by omega), bk_un (by omega)⟩)]
  rfl
theorem bk_L_cn (P : bk_P) (e : Nat) (he : e < bk_n P) (hg : bk_G P e = false) : bk_L (bk_cn P e) = bk_pt (bk_L P) (bk_A P e) (bk_D P e) (-bk_M P e) := by
  have h := bk_lf_flip (A := bk_A P) (D := bk_D P) (M := bk_M P) (G := bk_G P) (e := e) (bk_n P) he
  rw [bk_ur _ _ _ hg] at h
  have h2 : bk_L P = bk_pt (bk_L (bk_cn P e)) (bk_A P e) (bk_D P e) (bk_M P e) := h
  rw [h2, bk_pt_inv _ _ _ _ _ (by omega)]
theorem bk_W_en {P : bk_P} (h : bk_W P) {a d : Nat} {x : Int} (hn : bk_n P < 60) (ha : a < 4) (hd : d < 48) (h1 : -10000 ≤ x) (h2 : x ≤ 10000) : bk_W (bk_en P a d x) := by
  refine ⟨hn, fun e he => ?_, h.2.2⟩
  show bk_u (bk_A P) (bk_n P) a e < 4 ∧ bk_u (bk_D P) (bk_n P) d e < 48 ∧ -10000 ≤ bk_u (bk_M P) (bk_n P) x e ∧ bk_u (bk_M P) (bk_n P) x e ≤ 10000
  by_cases c : e = bk_n P
  · rw [c, bk_us, bk_us, bk_us]
    exact ⟨ha, hd, h1, h2⟩
  · rw [bk_un c, bk_un c, bk_un c]
    have he' : e < bk_n P + 1 := he
    exact h.2.1 e (by omega)
theorem bk_W_fl {P : bk_P} (h : bk_W P) {a : Nat} {f : Int} (h1 : -10000 ≤ f) (h2 : f ≤ 10000) : bk_W (bk_fl P a f) := by
  refine ⟨h.1, h.2.1, fun i hi => ?_⟩
  show -10000 ≤ bk_u (bk_F P) a f i ∧ bk_u (bk_F P) a f i ≤ 10000
  by_cases c : i = a
  · rw [c, bk_us]
    exact ⟨h1, h2⟩
  · rw [bk_un c]
    exact h.2.2 i hi
theorem bk_ok_en {P : bk_P} (h : bk_ok P) {a d : Nat} {x : Int} (hb : bk_be P a d x) : bk_ok (bk_en P a d x) := by
  show bk_okF (bk_L (bk_en P a d x)) (bk_F P)
  rw [bk_L_en]
  exact bk_ok_pt h hb
theorem bk_ok_cn {P : bk_P} (h : bk_ok P) {e : Nat} (he : e < bk_n P) (hg : bk_G P e = false) (hb : bk_be P (bk_A P e) (bk_D P e) (-bk_M P e)) : bk_ok (bk_cn P e) := by
  show bk_okF (bk_L (bk_cn P e)) (bk_F P)
  rw [bk_L_cn P e he hg]
  exact bk_ok_pt h hb
theorem bk_ok_fl {P : bk_P} (h : bk_ok P) {a : Nat} {f : Int} (hf : f ≤ 10000) (hb : f ≤ bk_lo (bk_L P a) 0 48) : bk_ok (bk_fl P a f) := by
  intro i hi k hk
  show bk_u (bk_F P) a f i ≤ bk_sg (bk_L P i) 0 (k + 1)
  by_cases c : i = a
  · rw [c, bk_us]
    exact (bk_lo_ge (bk_L P a) 0 f (by omega) 48).mp hb k hk
  · rw [bk_un c]
    exact h i hi k hk
end
section
/-! ===== a state that holds a picture ===== -/
def bk_E (P : bk_P) (a1 a2 a3 a4 a5 : Nat → Int32) : Prop :=
  (∀ e, e < bk_n P → a1 e = nI (bk_A P e) ∧ a2 e = nI (bk_D P e) ∧ a3 e = bk_I (bk_M P e) ∧ (a4 e = 0 ↔ bk_G P e = false)) ∧ (∀ a, a < 4 → a5 a = bk_I (bk_F P a))
def bk_S (l m b : Int32) (lg : Nat → Int32) (P : bk_P) (u : St1) : Prop := match u with
  | (c, l0, m0, b0, wc, wl, wa, a1, a2, a3, a4, a5, a6, a7, a8, a9) => l0 = l ∧ m0 = m ∧ b0 = b ∧ a9 = lg ∧ c = nI (bk_n P) ∧ bk_W P ∧ bk_E P a1 a2 a3 a4 a5 ∧ bk_T (bk_L P) a6 a7
def bk_wC (u : St1) : Int32 := match u with
  | (c, l0, m0, b0, wc, wl, wa, a1, a2, a3, a4, a5, a6, a7, a8, a9) => wc
def bk_wL (u : St1) : Int32 := match u with
  | (c, l0, m0, b0, wc, wl, wa, a1, a2, a3, a4, a5, a6, a7, a8, a9) => wl
/-! ===== widest ===== -/
theorem bk_widest_2 {post : Int32 → Prop} {t e : Nat} (ht : t < 1000) (he : e < 1000) : ∀ f h n, h + f = 6 → f < n → post (nI (bk_wd t e f h)) → wX_widest_2 post (nI t) (nI e - 1) n (nI h) := by
  intro f
  induction f with
  | zero =>
    intro h n hf hn hp
    obtain ⟨n, rfl⟩ : ∃ k, n = k + 1 := ⟨n - 1, by omega⟩
    exact pk_le 6 h (fun _ => hp) (fun z => absurd z (by omega))
  | succ f ih =>
    intro h n hf hn hp
    obtain ⟨n, rfl⟩ : ∃ k, n = k + 1 := ⟨n - 1, by omega⟩
    have hp' : post (nI (if t / 2 ^ h % 2 = 0 ∧ t + 2 * 2 ^ h ≤ e then bk_wd t e f (h + 1) else h)) := hp
    have hs := bk_sl h (by omega)
    have hq : 2 ^ h ≤ 2 ^ 6 := Nat.pow_le_pow_right (by omega) (show h ≤ 6 by omega)
    have hd : t / 2 ^ h ≤ t := Nat.div_le_self _ _
    have e1 : ((nI t >>> (nI h &&& 31)) &&& 1) = 0 ↔ t / 2 ^ h % 2 = 0 := by
      rw [pk_shrN (by omega) _ h hs, pk_andN (m := 1) (by omega) 1 (by decide)]
      exact nI_eq (a := t / 2 ^ h % 2) (b := 0) (by omega) (by omega)
    have e2 : (nI e - 1 < (nI t + ((2 : Int32) <<< (nI h &&& 31))) - 1) ↔ ¬ (t + 2 * 2 ^ h ≤ e) := by
      rw [show ((2 : Int32) <<< (nI h &&& 31)) = nI (2 * 2 ^ h) from pk_shlN (n := 2) _ h hs (by omega), nI_add, bk_I_m1, bk_I_m1, bk_I_lt (by omega) (by omega) (by omega) (by omega)]
      omega
    refine pk_le 6 h (fun z => absurd z (by omega)) (fun _ => ek_if e1 (fun c1 => ek_if e2 (fun c2 => ?_) (fun c2 => nm_r (nI_1 h) (ih (h + 1) n (by omega) (by omega) ?_))) (fun c1 => ?_))
    · rw [if_neg (fun c => c2 c.2)] at hp'; exact hp'
    · rw [if_pos ⟨c1, by omega⟩] at hp'; exact hp'
    · rw [if_neg (fun c => c1 c.1)] at hp'; exact hp'
theorem bk_widest {post : Int32 → Prop} {t e : Nat} (ht : t < 1000) (he : e < 1000) (hp : post (nI (bk_wd t e 6 0))) : wpX_widest post () (nI t) (nI e - 1) :=
  ⟨7, bk_widest_2 ht he 6 0 7 rfl (by omega) hp⟩
/-! ===== walk ===== -/
theorem bk_walk_29 {post : St1 → Prop} {c l0 m0 b0 : Int32} {a1 a2 a3 a4 a5 a6 a7 a8 a9 : Nat → Int32} {F : Nat → Nat → Int} {a s e : Nat} (ha : a < 4) (hT : bk_T F a6 a7) (hb : bk_bd (F a)) (he : e ≤ 64)
    (H : ∀ wa, post (c, l0, m0, b0, bk_I (bk_sg (F a) s (e - s)), bk_I (bk_lo (F a) s (e - s)), wa, a1, a2, a3, a4, a5, a6, a7, a8, a9)) :
    ∀ k t n wa, k ≤ 14 → k < n → s ≤ t → t ≤ e → bk_ws e k t = true → wX_walk_29 post (nI e - 1) (nI (128 * a)) c l0 m0 b0 a1 a2 a3 a4 a5 a6 a7 a8 a9 n (nI t) (nI (14 - k)) (bk_I (bk_sg (F a) s (t - s))) (bk_I (bk_lo (F a) s (t - s))) wa := by
  intro k
  induction k with
  | zero =>
    intro t n wa _ hn hs ht hw
    obtain ⟨n, rfl⟩ : ∃ k, n = k + 1 := ⟨n - 1, by omega⟩
    have hw' : e ≤ t := of_decide_eq_true hw
    have ee : t = e := by omega
    subst ee
    exact pk_le 14 (14 - 0) (fun _ => H wa) (fun z => absurd z (by omega))
  | succ k ih =>
    intro t n wa hk hn hs ht hw
    obtain ⟨n, rfl⟩ : ∃ k, n = k + 1 := ⟨n - 1, by omega⟩
    have hx : (nI e - 1 < nI t) ↔ e ≤ t := by
      rw [bk_I_m1, bk_I_n t, bk_I_lt (by omega) (by omega) (by omega) (by omega)]
      omega
    refine pk_le 14 (14 - (k + 1)) (fun z => absurd z (by omega)) (fun _ => ek_if hx (fun z => ?_) (fun z => ?_))
    · have ee : t = e := by omega
      subst ee
      exact H wa
    · have hw' : (if e ≤ t then true else bk_ws e k (t + 2 ^ bk_wd t e 6 0)) = true := hw
      rw [if_neg z] at hw'
      obtain ⟨⟨q, hq⟩, w2, w3⟩ := bk_wd_ok t e 6 0 ⟨t, by omega⟩ (by omega)
      refine bk_widest (by omega) (by omega) ?_
      generalize bk_wd t e 6 0 = h at hw' hq w2 w3 ⊢
      have hs5 := bk_sl h (by omega)
      obtain ⟨y, hy⟩ : ∃ y, y + 1 = 2 ^ h := ⟨2 ^ h - 1, by have := Nat.two_pow_pos h; omega⟩
      have h64 : 2 ^ (6 - h) * 2 ^ h = 64 := by
        rw [← Nat.pow_add, show 6 - h + h = 6 by omega]
      obtain ⟨v, hv⟩ : ∃ v, v * 2 ^ h = 64 + t := ⟨2 ^ (6 - h) + q, by rw [Nat.add_mul, h64, ← hq]⟩
      have hdv : (64 + t) / 2 ^ h = v := by rw [← hv]; exact Nat.mul_div_cancel v (Nat.two_pow_pos h)
      have v1 : v ≤ v * 2 ^ h := Nat.le_mul_of_pos_right v (Nat.two_pow_pos h)
      obtain ⟨n6, n7⟩ := bk_node hT ha hb h t v hv (by omega)
      have ex : nI (128 * a) + ((64 + nI t) >>> (nI h &&& 31)) = nI (128 * a + v) := by
        rw [show (64 : Int32) + nI t = nI (64 + t) from nI_add 64 t, pk_shrN (by omega) _ h hs5, hdv, nI_add]
      have ecl : (nI (128 * a + v)).toNatClampNeg = 128 * a + v := nI_clamp (by omega)
      have e7 : bk_I (bk_sg (F a) s (t - s)) + a7 (nI (128 * a + v)).toNatClampNeg = bk_I (bk_sg (F a) s (t - s) + bk_lo (F a) t (2 ^ h)) := by
        rw [ecl, n7, bk_I_add]
      have es : bk_sg (F a) s (t + 2 ^ h - s) = bk_sg (F a) s (t - s) + bk_sg (F a) t (2 ^ h) := by
        rw [show t + 2 ^ h - s = (t - s) + 2 ^ h by omega, bk_sg_app, show s + (t - s) = t by omega]
      have e6 : bk_I (bk_sg (F a) s (t - s)) + a6 (nI (128 * a + v)).toNatClampNeg = bk_I (bk_sg (F a) s (t + 2 ^ h - s)) := by
        rw [ecl, n6, bk_I_add, es]
      have e1 : nI t + ((1 : Int32) <<< (nI h &&& 31)) = nI (t + 2 ^ h) := by
        rw [show (1 : Int32) <<< (nI h &&& 31) = nI (1 * 2 ^ h) from pk_shlN (n := 1) _ h hs5 (by omega), nI_add, Nat.one_mul]
      have e14 : nI (14 - (k + 1)) + 1 = nI (14 - k) := by
        rw [nI_1, show 14 - (k + 1) + 1 = 14 - k by omega]
      have el : bk_lo (F a) s (t + 2 ^ h - s) = min (bk_lo (F a) s (t - s)) (bk_sg (F a) s (t - s) + bk_lo (F a) t (2 ^ h)) := by
        have g := bk_lo_app hb s (t - s) y
        rw [hy, show t - s + 2 ^ h = t + 2 ^ h - s by omega, show s + (t - s) = t by omega] at g
        exact g
      have b1 := hb s (t - s)
      have b2 := bk_lo_lo hb t (2 ^ h)
      have b3 := bk_lo_1 hb t y
      rw [hy] at b3
      have b4 := bk_lo_lo hb s (t - s)
      have b5 := bk_lo_hi (F a) s (t - s)
      refine nm_r ex ⟨pk_in (128 * a + v) 512 (by omega), nm_r e7 (ek_if (bk_I_le (by omega) (by omega) (by omega) (by omega)) (fun c1 => ?_) (fun c1 => ?_))⟩
      · refine ⟨pk_in (128 * a + v) 512 (by omega), nm_e ⟨pk_in (128 * a + v) 512 (by omega), nm_r e6 (nm_r e1 (nm_r e14 ?_))⟩⟩
        have g := ih (t + 2 ^ h) n (wa + ((a8 (nI (128 * a + v)).toNatClampNeg) + (bk_I (bk_sg (F a) s (t - s)) <<< (nI h &&& 31)))) (by omega) (by omega) (by omega) (by omega) hw'
        rw [el, Int.min_eq_left c1] at g
        exact g
      · refine ⟨pk_in (128 * a + v) 512 (by omega), nm_e ⟨pk_in (128 * a + v) 512 (by omega), nm_r e6 (nm_r e1 (nm_r e14 ?_))⟩⟩
        have g := ih (t + 2 ^ h) n (wa + ((a8 (nI (128 * a + v)).toNatClampNeg) + (bk_I (bk_sg (F a) s (t - s)) <<< (nI h &&& 31)))) (by omega) (by omega) (by omega) (by omega) hw'
        rw [el, Int.min_eq_right (by omega)] at g
        exact g
theorem bk_walk {post : St1 → Prop} {c l0 m0 b0 wc wl wa : Int32} {a1 a2 a3 a4 a5 a6 a7 a8 a9 : Nat → Int32} {F : Nat → Nat → Int} {a s e : Nat} {z : Int32} (ha : a < 4) (hT : bk_T F a6 a7) (hb : bk_bd (F a)) (hse : s ≤ e) (he : e ≤ 64) (hw : bk_ws e 14 s = true) (hz : z = nI e - 1)
    (H : ∀ wa', post (c, l0, m0, b0, bk_I (bk_sg (F a) s (e - s)), bk_I (bk_lo (F a) s (e - s)), wa', a1, a2, a3, a4, a5, a6, a7, a8, a9)) : wpX_walk post (c, l0, m0, b0, wc, wl, wa, a1, a2, a3, a4, a5, a6, a7, a8, a9) (nI a) (nI s) z := by
  subst hz
  have g := bk_walk_29 ha hT hb he H 14 s 15 0 (by omega) (by omega) (by omega) hse hw
  rw [Nat.sub_self s] at g
  exact nm_r (pk_mul 128 a) ⟨15, g⟩
theorem bk_walkS {post : St1 → Prop} {l m b : Int32} {lg : Nat → Int32} {P : bk_P} {u : St1} {a s e : Nat} {z : Int32} (hS : bk_S l m b lg P u) (ha : a < 4) (hse : s ≤ e) (he : e ≤ 64) (hw : bk_ws e 14 s = true) (hz : z = nI e - 1)
    (H : ∀ u', bk_S l m b lg P u' → bk_wC u' = bk_I (bk_sg (bk_L P a) s (e - s)) → bk_wL u' = bk_I (bk_lo (bk_L P a) s (e - s)) → post u') : wpX_walk post u (nI a) (nI s) z := by
  obtain ⟨c, l0, m0, b0, wc, wl, wa, a1, a2, a3, a4, a5, a6, a7, a8, a9⟩ := u
  obtain ⟨h1, h2, h3, h4, h5, hW, hE, hT⟩ := hS
  exact bk_walk ha hT (bk_L_bd hW a) hse he hw hz (fun wa' => H _ ⟨h1, h2, h3, h4, h5, hW, hE, hT⟩ rfl rfl)
/-! ===== isSound, sound ===== -/
theorem bk_isSound_2 {post : Int32 → St1 → Prop} {l m b : Int32} {lg : Nat → Int32} {P : bk_P} (H1 : bk_ok P → ∀ u', bk_S l m b lg P u' → post 1 u') (H0 : ¬ bk_ok P → ∀ u', bk_S l m b lg P u' → post 0 u') :
    ∀ j k n c l0 m0 b0 wc wl wa a1 a2 a3 a4 a5 a6 a7 a8 a9, k + j = 4 → j < n → (∀ a, a < k → ∀ i, i < 48 → bk_F P a ≤ bk_sg (bk_L P a) 0 (i + 1)) → bk_S l m b lg P (c, l0, m0, b0, wc, wl, wa, a1, a2, a3, a4, a5, a6, a7, a8, a9) → wX_isSound_2 post n (nI k) c l0 m0 b0 wc wl wa a1 a2 a3 a4 a5 a6 a7 a8 a9 := by
  intro j
  induction j with
  | zero =>
    intro k n c l0 m0 b0 wc wl wa a1 a2 a3 a4 a5 a6 a7 a8 a9 hk hn ho hS
    obtain ⟨n, rfl⟩ : ∃ k, n = k + 1 := ⟨n - 1, by omega⟩
    exact pk_le 4 k (fun _ => H1 (fun a ha => ho a (by omega)) _ hS) (fun z => absurd z (by omega))
  | succ j ih =>
    intro k n c l0 m0 b0 wc wl wa a1 a2 a3 a4 a5 a6 a7 a8 a9 hk hn ho hS
    obtain ⟨n, rfl⟩ : ∃ k, n = k + 1 := ⟨n - 1, by omega⟩
    refine pk_le 4 k (fun z => absurd z (by omega)) (fun _ => ?_)
    refine bk_walkS (s := 0) (e := 48) hS (show k < 4 by omega) (by omega) (by omega) (bk_ws_a 48 (by omega)) (by decide) ?_
    intro u' hS' hc hl
    obtain ⟨c', l0', m0', b0', wc', wl', wa', d1, d2, d3, d4, d5, d6, d7, d8, d9⟩ := u'
    have hl' : wl' = bk_I (bk_lo (bk_L P k) 0 48) := hl
    have hS2 := hS'
    obtain ⟨h1, h2, h3, h4, h5, hW, hE, hT⟩ := hS'
    have hb := bk_L_bd hW k
    have f1 := hW.2.2 k (by omega)
    have f2 := hE.2 k (by omega)
    have b1 := bk_lo_lo hb 0 48
    have b2 : bk_lo (bk_L P k) 0 48 ≤ 600000 := bk_lo_1 hb 0 47
    have hc : (d5 (nI k).toNatClampNeg ≤ wl') ↔ bk_F P k ≤ bk_lo (bk_L P k) 0 48 := by
      rw [nI_clamp (by omega), f2, hl', bk_I_le (by omega) (by omega) (by omega) (by omega)]
    have hg := bk_lo_ge (bk_L P k) 0 (bk_F P k) (by omega) 48
    refine ⟨pk_in k 4 (by omega), ek_if hc (fun z => nm_r (nI_1 k) (ih (k + 1) n c' l0' m0' b0' wc' wl' wa' d1 d2 d3 d4 d5 d6 d7 d8 d9 (by omega) (by omega) ?_ hS2)) (fun z => ?_)⟩
    · intro a ha
      by_cases e : a = k
      · rw [e]
        exact hg.mp z
      · exact ho a (by omega)
    · exact H0 (fun g => z (hg.mpr (g k (by omega)))) _ hS2
theorem bk_isSound {post : Int32 → St1 → Prop} {l m b : Int32} {lg : Nat → Int32} {P : bk_P} {u : St1} (hS : bk_S l m b lg P u) (H1 : bk_ok P → ∀ u', bk_S l m b lg P u' → post 1 u') (H0 : ¬ bk_ok P → ∀ u', bk_S l m b lg P u' → post 0 u') : wpX_isSound post u := by
  obtain ⟨c, l0, m0, b0, wc, wl, wa, a1, a2, a3, a4, a5, a6, a7, a8, a9⟩ := u
  exact ⟨5, bk_isSound_2 H1 H0 4 0 5 c l0 m0 b0 wc wl wa a1 a2 a3 a4 a5 a6 a7 a8 a9 (by omega) (by omega) (fun a ha => absurd ha (Nat.not_lt_zero a)) hS⟩
theorem bk_sound {post : Int32 → St1 → Prop} {l m b : Int32} {lg : Nat → Int32} {P : bk_P} {u : St1} (hS : bk_S l m b lg P u) (ho : bk_ok P) (H1 : ∀ u', bk_S l m b lg P u' → post 1 u') : wpX_sound post u := by
  obtain ⟨c, l0, m0, b0, wc, wl, wa, a1, a2, a3, a4, a5, a6, a7, a8, a9⟩ := u
  refine bk_isSound hS (fun _ u' hS' => ?_) (fun z => absurd ho z)
  obtain ⟨c', l0', m0', b0', wc', wl', wa', d1, d2, d3, d4, d5, d6, d7, d8, d9⟩ := u'
  exact br_f (by decide) (H1 _ hS')
/-! ===== add ===== -/
def bk_X (F : Nat → Nat → Int) (a6 a7 : Nat → Int32) (a w : Nat) : Prop := ∀ i, i < 4 →
  (∀ d, d < 64 → a6 (128 * i + (64 + d)) = bk_I (F i d) ∧ a7 (128 * i + (64 + d)) = bk_I (F i d)) ∧ (∀ v, 0 < v → v < 64 → ¬ (i = a ∧ v = w) → bk_N a6 a7 (128 * i) v)
theorem bk_N_upd {a6 a7 : Nat → Int32} {b v k : Nat} {x y : Int32} (h : bk_N a6 a7 b v) (h1 : b + v ≠ k) (h2 : b + 2 * v ≠ k) (h3 : b + 2 * v + 1 ≠ k) : bk_N (upd a6 k x) (upd a7 k y) b v := by
  unfold bk_N
  rw [pk_un h1, pk_un h1, pk_un h2, pk_un h2, pk_un h3, pk_un h3]
  exact h
theorem bk_X_start {F : Nat → Nat → Int} {a6 a7 : Nat → Int32} {a d : Nat} {x : Int} {y : Int32} (hT : bk_T F a6 a7) (ha : a < 4) (hd : d < 64) (hy : y = a6 (128 * a + (64 + d)) + bk_I x) :
    bk_X (bk_pt F a d x) (upd a6 (128 * a + (64 + d)) y) (upd a7 (128 * a + (64 + d)) y) a ((64 + d) / 2) := by
  intro i hi
  obtain ⟨h1, h2⟩ := hT i hi
  refine ⟨fun j hj => ?_, fun v v0 v1 hv => ?_⟩
  · by_cases e : i = a ∧ j = d
    · obtain ⟨rfl, rfl⟩ := e
      rw [pk_us, pk_us, hy, (h1 j hj).1, bk_I_add]
      show _ = bk_I (F i j + (if i = i ∧ j = j then x else 0)) ∧ _ = bk_I (F i j + (if i = i ∧ j = j then x else 0))
      rw [if_pos ⟨rfl, rfl⟩]
      exact ⟨rfl, rfl⟩
    · have hk : 128 * i + (64 + j) ≠ 128 * a + (64 + d) := by omega
      rw [pk_un hk, pk_un hk]
      show _ = bk_I (F i j + (if i = a ∧ j = d then x else 0)) ∧ _ = bk_I (F i j + (if i = a ∧ j = d then x else 0))
      rw [if_neg e, Int.add_zero]
      exact h1 j hj
  · exact bk_N_upd (h2 v v0 v1) (by omega) (by omega) (by omega)
theorem bk_X_step {F : Nat → Nat → Int} {a6 a7 : Nat → Int32} {a w : Nat} {x y : Int32} (h : bk_X F a6 a7 a w) (ha : a < 4) (w0 : 0 < w) (w1 : w < 64)
    (hx : x = a6 (128 * a + 2 * w) + a6 (128 * a + 2 * w + 1)) (hy : y = if a6 (128 * a + 2 * w) + a7 (128 * a + 2 * w + 1) ≤ a7 (128 * a + 2 * w) then a6 (128 * a + 2 * w) + a7 (128 * a + 2 * w + 1) else a7 (128 * a + 2 * w)) :
    bk_X F (upd a6 (128 * a + w) x) (upd a7 (128 * a + w) y) a (w / 2) := by
  intro i hi
  obtain ⟨h1, h2⟩ := h i hi
  refine ⟨fun j hj => ?_, fun v v0 v1 hv => ?_⟩
  · rw [pk_un (by omega), pk_un (by omega)]
    exact h1 j hj
  · by_cases e : i = a ∧ v = w
    · obtain ⟨rfl, rfl⟩ := e
      unfold bk_N
      rw [pk_us, pk_us, pk_un (by omega), pk_un (by omega), pk_un (by omega), pk_un (by omega)]
      exact ⟨hx, hy⟩
    · exact bk_N_upd (h2 v v0 v1 e) (by omega) (by omega) (by omega)
theorem bk_X_end {F : Nat → Nat → Int} {a6 a7 : Nat → Int32} {a : Nat} (h : bk_X F a6 a7 a 0) : bk_T F a6 a7 :=
  fun i hi => ⟨(h i hi).1, fun v v0 v1 => (h i hi).2 v v0 v1 (by omega)⟩
theorem bk_add_73 {post : St1 → Prop} {c l0 m0 b0 wc wl wa : Int32} {a1 a2 a3 a4 a5 a9 : Nat → Int32} {F : Nat → Nat → Int} {a d : Nat} (ha : a < 4) (hd : d < 64)
    (H : ∀ b6 b7 b8, bk_T F b6 b7 → post (c, l0, m0, b0, wc, wl, wa, a1, a2, a3, a4, a5, b6, b7, b8, a9)) :
    ∀ j h n x6 a6 a7 a8, h + j = 6 → j < n → bk_X F a6 a7 a ((64 + d) / 2 ^ h / 2) → wX_add_73 post (nI (128 * a)) c l0 m0 b0 wc wl wa n (nI ((64 + d) / 2 ^ h)) x6 (nI h) a1 a2 a3 a4 a5 a6 a7 a8 a9 := by
  intro j
  induction j with
  | zero =>
    intro h n x6 a6 a7 a8 hh hn hX
    obtain ⟨n, rfl⟩ : ∃ k, n = k + 1 := ⟨n - 1, by omega⟩
    have e6 : h = 6 := by omega
    subst e6
    rw [show (64 + d) / 2 ^ 6 / 2 = 0 by omega] at hX
    exact pk_le 6 6 (fun _ => H a6 a7 a8 (bk_X_end hX)) (fun z => absurd z (by omega))
  | succ j ih =>
    intro h n x6 a6 a7 a8 hh hn hX
    obtain ⟨n, rfl⟩ : ∃ k, n = k + 1 := ⟨n - 1, by omega⟩
    have hv : (64 + d) / 2 ^ h / 2 = (64 + d) / 2 ^ (h + 1) := by rw [Nat.div_div_eq_div_mul, Nat.pow_succ]
    have hq : 2 ^ (h + 1) ≤ 2 ^ 6 := Nat.pow_le_pow_right (by omega) (show h + 1 ≤ 6 by omega)
    have w0 : 0 < (64 + d) / 2 ^ (h + 1) := Nat.div_pos (by omega) (Nat.two_pow_pos _)
    have hle : (64 + d) / 2 ^ h ≤ 64 + d := Nat.div_le_self _ _
    have w1 : (64 + d) / 2 ^ (h + 1) < 64 := by omega
    have hsh : nI ((64 + d) / 2 ^ h) >>> ((1 : Int32) &&& 31) = nI ((64 + d) / 2 ^ (h + 1)) := by
      rw [pk_shrN (by omega) _ 1 (by decide), ← hv]
    rw [hv] at hX
    have ih' := fun x6 b6 b7 b8 => ih (h + 1) n x6 b6 b7 b8 (by omega) (by omega)
    generalize (64 + d) / 2 ^ (h + 1) = w at hX hsh w0 w1 ih'
    have ex : nI (128 * a) + 2 * nI w = nI (128 * a + 2 * w) := by
      rw [show (2 : Int32) * nI w = nI (2 * w) from pk_mul 2 w, nI_add]
    have ez : nI (128 * a) + nI w = nI (128 * a + w) := nI_add _ _
    have cx : (nI (128 * a + 2 * w)).toNatClampNeg = 128 * a + 2 * w := nI_clamp (by omega)
    have cy : (nI (128 * a + 2 * w) + 1).toNatClampNeg = 128 * a + 2 * w + 1 := by rw [nI_1]; exact nI_clamp (by omega)
    have cz : (nI (128 * a) + nI w).toNatClampNeg = 128 * a + w := by rw [ez]; exact nI_clamp (by omega)
    have ix : vp_in (nI (128 * a + 2 * w)) 512 := pk_in (128 * a + 2 * w) 512 (by omega)
    have iy : vp_in (nI (128 * a + 2 * w) + 1) 512 := pk_in (128 * a + 2 * w + 1) 512 (by omega) (nI_1 _)
    have iz : vp_in (nI (128 * a) + nI w) 512 := pk_in (128 * a + w) 512 (by omega) ez
    refine pk_le 6 h (fun z => absurd z (by omega)) (fun _ => nm_r hsh (nm_r ex ⟨ix, iy, ?_⟩))
    refine nm_r (show _ = a6 (128 * a + 2 * w) + a7 (128 * a + 2 * w + 1) by rw [cx, cy]) ⟨ix, iy, iz, ?_⟩
    refine nm_r (show _ = upd a6 (128 * a + w) (a6 (128 * a + 2 * w) + a6 (128 * a + 2 * w + 1)) by rw [cx, cy, cz]) ⟨ix, ?_⟩
    refine ek_if (show _ ↔ a6 (128 * a + 2 * w) + a7 (128 * a + 2 * w + 1) ≤ a7 (128 * a + 2 * w) by rw [cx]) (fun z => ?_) (fun z => ⟨ix, ?_⟩)
    · refine ⟨iz, nm_r (show _ = upd a7 (128 * a + w) (a6 (128 * a + 2 * w) + a7 (128 * a + 2 * w + 1)) by rw [cz]) ⟨ix, iy, ix, iz, nm_e (nm_e (nm_r (nI_1 h) ?_))⟩⟩
      exact ih' _ _ _ _ (bk_X_step hX ha w0 w1 rfl (if_pos z).symm)
    · refine ⟨iz, nm_r (show _ = upd a7 (128 * a + w) (a7 (128 * a + 2 * w)) by rw [cz, cx]) ⟨ix, iy, ix, iz, nm_e (nm_e (nm_r (nI_1 h) ?_))⟩⟩
      exact ih' _ _ _ _ (bk_X_step hX ha w0 w1 rfl (if_neg z).symm)
theorem bk_add {post : St1 → Prop} {c l0 m0 b0 wc wl wa : Int32} {a1 a2 a3 a4 a5 a6 a7 a8 a9 : Nat → Int32} {F : Nat → Nat → Int} {a d : Nat} {x : Int} {p0 p1 p2 : Int32} (h0 : p0 = nI a) (h1 : p1 = nI d) (h2 : p2 = bk_I x) (ha : a < 4) (hd : d < 64) (hT : bk_T F a6 a7)
    (H : ∀ b6 b7 b8, bk_T (bk_pt F a d x) b6 b7 → post (c, l0, m0, b0, wc, wl, wa, a1, a2, a3, a4, a5, b6, b7, b8, a9)) : wpX_add post (c, l0, m0, b0, wc, wl, wa, a1, a2, a3, a4, a5, a6, a7, a8, a9) p0 p1 p2 := by
  subst h0 h1 h2
  have ez : nI (128 * a) + nI (64 + d) = nI (128 * a + (64 + d)) := nI_add _ _
  have cz : (nI (128 * a) + nI (64 + d)).toNatClampNeg = 128 * a + (64 + d) := by rw [ez]; exact nI_clamp (by omega)
  have iz : vp_in (nI (128 * a) + nI (64 + d)) 512 := pk_in (128 * a + (64 + d)) 512 (by omega) ez
  have hX := bk_X_start (x := x) hT ha hd rfl
  have e0 : (64 + d) / 2 ^ 0 = 64 + d := Nat.div_one _
  refine nm_r (pk_mul 128 a) (nm_r (nI_add 64 d) ⟨iz, iz, ?_⟩)
  refine nm_r (show _ = upd a6 (128 * a + (64 + d)) (a6 (128 * a + (64 + d)) + bk_I x) by rw [cz]) ⟨iz, iz, ?_⟩
  refine nm_r (show _ = upd a7 (128 * a + (64 + d)) (a6 (128 * a + (64 + d)) + bk_I x) by rw [cz, pk_us]) ⟨iz, iz, nm_e ⟨7, ?_⟩⟩
  have g := bk_add_73 (post := post) (c := c) (l0 := l0) (m0 := m0) (b0 := b0) (wc := wc) (wl := wl) (wa := wa) (a1 := a1) (a2 := a2) (a3 := a3) (a4 := a4) (a5 := a5) (a9 := a9) ha hd H 6 0 7 1 _ _ (upd a8 (nI (128 * a) + nI (64 + d)).toNatClampNeg (upd a6 (128 * a + (64 + d)) (a6 (128 * a + (64 + d)) + bk_I x) (nI (128 * a) + nI (64 + d)).toNatClampNeg)) (by omega) (by omega) (by rw [e0]; exact hX)
  rw [e0] at g
  exact g
end
section
/-! ===== the small calls ===== -/
theorem bk_isA {post : Int32 → Prop} {a : Nat} (ha : a < 4) (H : post 1) : wpX_isAccount post () (nI a) := br_f (nI_pos (by omega)) (br_f (nI_ge (b := 4) ha (by decide)) H)
theorem bk_isD {post : Int32 → Prop} {d : Nat} (hd : d < 48) (H : post 1) : wpX_isDay post () (nI d) := br_f (nI_pos (by omega)) (br_f (nI_ge (b := 48) hd (by decide)) H)
theorem bk_isOpen {post : Int32 → Prop} {l m b : Int32} {lg : Nat → Int32} {P : bk_P} {u : St1} (hS : bk_S l m b lg P u) (H0 : b = 0 → post 0) (H1 : b ≠ 0 → post 1) : wpX_isOpen post u := by
  obtain ⟨c, l0, m0, b0, wc, wl, wa, a1, a2, a3, a4, a5, a6, a7, a8, a9⟩ := u
  obtain ⟨h1, h2, h3, h4, h5, hW, hE, hT⟩ := hS
  subst h3
  exact br_c H0 H1
theorem bk_entries {post : Int32 → Prop} {l m b : Int32} {lg : Nat → Int32} {P : bk_P} {u : St1} (hS : bk_S l m b lg P u) (H : post (nI (bk_n P))) : wpX_entries post u := by
  obtain ⟨c, l0, m0, b0, wc, wl, wa, a1, a2, a3, a4, a5, a6, a7, a8, a9⟩ := u
  obtain ⟨h1, h2, h3, h4, h5, hW, hE, hT⟩ := hS
  subst h5
  exact H
theorem bk_lowestIn {post : Int32 → St1 → Prop} {l m b : Int32} {lg : Nat → Int32} {P : bk_P} {u : St1} {a d : Nat} (hS : bk_S l m b lg P u) (ha : a < 4) (hd : d < 48) (H : ∀ u', bk_S l m b lg P u' → post (bk_I (bk_low (bk_L P a) d)) u') : wpX_lowestIn post u (nI a) (nI d) 47 := by
  obtain ⟨c, l0, m0, b0, wc, wl, wa, a1, a2, a3, a4, a5, a6, a7, a8, a9⟩ := u
  unfold wpX_lowestIn
  refine bk_walkS (s := 0) (e := d) hS ha (by omega) (by omega) (bk_ws_a d (by omega)) rfl ?_
  intro u' hS' hc _
  obtain ⟨c', l0', m0', b0', wc', wl', wa', d1, d2, d3, d4, d5, d6, d7, d8, d9⟩ := u'
  have hc' : wc' = bk_I (bk_sg (bk_L P a) 0 d) := hc
  refine bk_walkS (s := d) (e := 48) hS' ha (by omega) (by omega) (bk_ws_b d hd) (by decide) ?_
  intro u'' hS'' _ hl
  obtain ⟨c'', l0'', m0'', b0'', wc'', wl'', wa'', g1, g2, g3, g4, g5, g6, g7, g8, g9⟩ := u''
  have hl' : wl'' = bk_I (bk_lo (bk_L P a) d (48 - d)) := hl
  show post (wc' + wl'') (c'', l0'', m0'', b0'', wc'', wl'', wa'', g1, g2, g3, g4, g5, g6, g7, g8, g9)
  have e : wc' + wl'' = bk_I (bk_low (bk_L P a) d) := by rw [hc', hl', bk_I_add]; rfl
  rw [e]
  exact H _ hS''
theorem bk_low_bd {P : bk_P} (hW : bk_W P) (a : Nat) {d : Nat} (hd : d < 48) : -1200000 ≤ bk_low (bk_L P a) d ∧ bk_low (bk_L P a) d ≤ 1200000 := by
  have hb := bk_L_bd hW a
  have h1 := hb 0 d
  have h2 := bk_lo_lo hb d (48 - d)
  have h3 := bk_lo_1 hb d (47 - d)
  rw [show 47 - d + 1 = 48 - d by omega] at h3
  unfold bk_low
  omega
theorem bk_free {post : Int32 → St1 → Prop} {l m b : Int32} {lg : Nat → Int32} {P : bk_P} {u : St1} {a d : Nat} (hS : bk_S l m b lg P u) (ha : a < 4) (hd : d < 48) (H : ∀ u', bk_S l m b lg P u' → post (bk_I (max 0 (bk_low (bk_L P a) d - bk_F P a))) u') : wpX_free post u (nI a) (nI d) := by
  obtain ⟨c, l0, m0, b0, wc, wl, wa, a1, a2, a3, a4, a5, a6, a7, a8, a9⟩ := u
  unfold wpX_free
  refine bk_isA ha (br_f (by decide) (bk_isD hd (br_f (by decide) (bk_lowestIn hS ha hd ?_))))
  intro u' hS'
  obtain ⟨c', l0', m0', b0', wc', wl', wa', d1, d2, d3, d4, d5, d6, d7, d8, d9⟩ := u'
  have hS2 := hS'
  obtain ⟨h1, h2, h3, h4, h5, hW, hE, hT⟩ := hS'
  have b1 := bk_low_bd hW a hd
  have b2 := hW.2.2 a ha
  have e : bk_I (bk_low (bk_L P a) d) - d5 (nI a).toNatClampNeg = bk_I (bk_low (bk_L P a) d - bk_F P a) := by
    rw [nI_clamp (by omega), hE.2 a ha, bk_I_sub]
  have hc : (0 ≤ bk_I (bk_low (bk_L P a) d - bk_F P a)) ↔ 0 ≤ bk_low (bk_L P a) d - bk_F P a := bk_I_le (x := 0) (by omega) (by omega) (by omega) (by omega)
  have g := H _ hS2
  refine ⟨pk_in a 4 ha, nm_r e (ek_if hc (fun z => ?_) (fun z => ?_))⟩
  · rw [Int.max_eq_right z] at g
    exact g
  · rw [Int.max_eq_left (by omega)] at g
    exact g
theorem bk_bears {post : Int32 → St1 → Prop} {l m b : Int32} {lg : Nat → Int32} {P : bk_P} {u : St1} {a d : Nat} {x : Int} {p0 p1 p2 : Int32} (hS : bk_S l m b lg P u) (e0 : p0 = nI a) (e1 : p1 = nI d) (e2 : p2 = bk_I x) (ha : a < 4) (hd : d < 48) (x1 : -10000 ≤ x) (x2 : x ≤ 10000)
    (H1 : bk_be P a d x → ∀ u', bk_S l m b lg P u' → post 1 u') (H0 : ¬ bk_be P a d x → ∀ u', bk_S l m b lg P u' → post 0 u') : wpX_bears post u p0 p1 p2 := by
  subst e0 e1 e2
  obtain ⟨c, l0, m0, b0, wc, wl, wa, a1, a2, a3, a4, a5, a6, a7, a8, a9⟩ := u
  unfold wpX_bears
  have hx : (0 < bk_I x) ↔ 0 < x := bk_I_lt (x := 0) (by omega) (by omega) (by omega) (by omega)
  refine ek_if hx (fun z => H1 (Or.inl z) _ hS) (fun z => bk_lowestIn hS ha hd ?_)
  intro u' hS'
  obtain ⟨c', l0', m0', b0', wc', wl', wa', d1, d2, d3, d4, d5, d6, d7, d8, d9⟩ := u'
  have hS2 := hS'
  obtain ⟨h1, h2, h3, h4, h5, hW, hE, hT⟩ := hS'
  have b1 := bk_low_bd hW a hd
  have b2 := hW.2.2 a ha
  have hc : (bk_I (bk_low (bk_L P a) d) + bk_I x < d5 (nI a).toNatClampNeg) ↔ bk_low (bk_L P a) d + x < bk_F P a := by
    rw [nI_clamp (by omega), hE.2 a ha, bk_I_add, bk_I_lt (by omega) (by omega) (by omega) (by omega)]
  refine ⟨pk_in a 4 ha, ek_if hc (fun y => H0 (fun w => ?_) _ hS2) (fun y => H1 (Or.inr (by omega)) _ hS2)⟩
  rcases w with w | w
  · exact z w
  · omega
theorem bk_enter {post : Int32 → St1 → Prop} {l m b : Int32} {lg : Nat → Int32} {P : bk_P} {u : St1} {a d : Nat} {x : Int} {p0 p1 p2 : Int32} (hS : bk_S l m b lg P u) (e0 : p0 = nI a) (e1 : p1 = nI d) (e2 : p2 = bk_I x) (hn : bk_n P < 60) (ha : a < 4) (hd : d < 48) (x1 : -10000 ≤ x) (x2 : x ≤ 10000)
    (H : ∀ u', bk_S l m b lg (bk_en P a d x) u' → post (nI (bk_n P)) u') : wpX_enter post u p0 p1 p2 := by
  subst e0 e1 e2
  obtain ⟨c, l0, m0, b0, wc, wl, wa, a1, a2, a3, a4, a5, a6, a7, a8, a9⟩ := u
  obtain ⟨h1, h2, h3, h4, h5, hW, hE, hT⟩ := hS
  subst h5
  have ic : vp_in (nI (bk_n P)) 60 := pk_in (bk_n P) 60 hn
  have cc : (nI (bk_n P)).toNatClampNeg = bk_n P := nI_clamp (by omega)
  unfold wpX_enter
  refine ⟨ic, nm_r (show _ = upd a1 (bk_n P) (nI a) by rw [cc]) ⟨ic, nm_r (show _ = upd a2 (bk_n P) (nI d) by rw [cc]) ⟨ic, nm_r (show _ = upd a3 (bk_n P) (bk_I x) by rw [cc]) ⟨ic, nm_r (show _ = upd a4 (bk_n P) 0 by rw [cc]) (bk_add rfl rfl rfl ha (by omega) hT ?_)⟩⟩⟩⟩
  intro b6 b7 b8 hT'
  refine nm_r (nI_1 _) ?_
  rw [nI_pred]
  refine H _ ⟨h1, h2, h3, h4, rfl, bk_W_en hW hn ha hd x1 x2, ⟨fun e he => ?_, hE.2⟩, by rw [bk_L_en]; exact hT'⟩
  show upd a1 (bk_n P) (nI a) e = nI (bk_u (bk_A P) (bk_n P) a e) ∧ upd a2 (bk_n P) (nI d) e = nI (bk_u (bk_D P) (bk_n P) d e) ∧ upd a3 (bk_n P) (bk_I x) e = bk_I (bk_u (bk_M P) (bk_n P) x e) ∧ (upd a4 (bk_n P) 0 e = 0 ↔ bk_u (bk_G P) (bk_n P) false e = false)
  by_cases k : e = bk_n P
  · rw [k, pk_us, pk_us, pk_us, pk_us, bk_us, bk_us, bk_us, bk_us]
    exact ⟨rfl, rfl, rfl, ⟨fun _ => rfl, fun _ => rfl⟩⟩
  · rw [pk_un k, pk_un k, pk_un k, pk_un k, bk_un k, bk_un k, bk_un k, bk_un k]
    have he' : e < bk_n P + 1 := he
    exact hE.1 e (by omega)
/-! ===== post, transfer, cancel, floor, the start of a batch ===== -/
theorem bk_post_72 {post : Int32 → St1 → Prop} {l m b : Int32} {lg : Nat → Int32} {P : bk_P} {c l0 m0 b0 wc wl wa : Int32} {a1 a2 a3 a4 a5 a6 a7 a8 a9 : Nat → Int32} {a d : Nat} {x : Int} (hS : bk_S l m b lg P (c, l0, m0, b0, wc, wl, wa, a1, a2, a3, a4, a5, a6, a7, a8, a9)) (hn : bk_n P < 60) (ha : a < 4) (hd : d < 48) (x1 : -10000 ≤ x) (x2 : x ≤ 10000)
    (H : ∀ u', bk_S l m b lg (bk_en P a d x) u' → post (nI (bk_n P)) u') : wX_post_72 post (nI a) (nI d) (bk_I x) c l0 m0 b0 wc wl wa a1 a2 a3 a4 a5 a6 a7 a8 a9 := by
  unfold wX_post_72
  refine bk_enter hS rfl rfl rfl hn ha hd x1 x2 ?_
  intro u' hS'
  obtain ⟨c', l0', m0', b0', wc', wl', wa', d1, d2, d3, d4, d5, d6, d7, d8, d9⟩ := u'
  exact H _ hS'
theorem bk_post {post : Int32 → St1 → Prop} {l m b : Int32} {lg : Nat → Int32} {P : bk_P} {u : St1} {a d : Nat} {x : Int} {p2 : Int32} (hS : bk_S l m b lg P u) (e2 : p2 = bk_I x) (ha : a < 4) (hd : d < 48) (x0 : x ≠ 0) (x1 : -10000 ≤ x) (x2 : x ≤ 10000)
    (H4 : bk_n P = 60 → ∀ u', bk_S l m b lg P u' → post (-4) u')
    (H5 : bk_n P < 60 → b = 0 → ¬ bk_be P a d x → ∀ u', bk_S l m b lg P u' → post (-5) u')
    (H : bk_n P < 60 → (b = 0 → bk_be P a d x) → ∀ u', bk_S l m b lg (bk_en P a d x) u' → post (nI (bk_n P)) u') : wpX_post post u (nI a) (nI d) p2 := by
  subst e2
  obtain ⟨c, l0, m0, b0, wc, wl, wa, a1, a2, a3, a4, a5, a6, a7, a8, a9⟩ := u
  have hS2 := hS
  obtain ⟨h1, h2, h3, h4, h5, hW, hE, hT⟩ := hS
  have hn := hW.1
  subst h5
  subst h3
  unfold wpX_post
  have c0 : (bk_I x = 0) ↔ x = 0 := bk_I_eq (y := 0) (by omega) (by omega) (by omega) (by omega)
  have c1 : (bk_I x < (-10000)) ↔ x < -10000 := bk_I_lt (y := -10000) (by omega) (by omega) (by omega) (by omega)
  have c2 : (bk_I x ≤ 10000) ↔ x ≤ 10000 := bk_I_le (y := 10000) (by omega) (by omega) (by omega) (by omega)
  refine bk_isA ha (br_f (by decide) (bk_isD hd (br_f (by decide) (ek_if c0 (fun z => absurd z x0) (fun _ => ek_if c1 (fun z => absurd z (by omega)) (fun _ => ek_if c2 (fun _ => ?_) (fun z => absurd x2 z)))))))
  refine pk_eq (bk_n P) 60 (fun z => H4 z _ hS2) (fun z => br_c (fun y => ?_) (fun y => ?_))
  · refine bk_bears hS2 rfl rfl rfl ha hd x1 x2 (fun w u' hS' => ?_) (fun w u' hS' => ?_)
    · obtain ⟨c', l0', m0', b0', wc', wl', wa', d1, d2, d3, d4, d5, d6, d7, d8, d9⟩ := u'
      exact br_f (by decide) (bk_post_72 hS' (by omega) ha hd x1 x2 (H (by omega) (fun _ => w)))
    · obtain ⟨c', l0', m0', b0', wc', wl', wa', d1, d2, d3, d4, d5, d6, d7, d8, d9⟩ := u'
      exact br_t rfl (H5 (by omega) y w _ hS')
  · exact bk_post_72 hS2 (by omega) ha hd x1 x2 (H (by omega) (fun t => absurd t y))
theorem bk_transfer_88 {post : Int32 → St1 → Prop} {l m b : Int32} {lg : Nat → Int32} {P : bk_P} {c l0 m0 b0 wc wl wa : Int32} {a1 a2 a3 a4 a5 a6 a7 a8 a9 : Nat → Int32} {f t d : Nat} {y : Int} (hS : bk_S l m b lg P (c, l0, m0, b0, wc, wl, wa, a1, a2, a3, a4, a5, a6, a7, a8, a9)) (hn : bk_n P ≤ 58) (hf : f < 4) (ht : t < 4) (hd : d < 48) (y1 : -10000 ≤ y) (y2 : y ≤ 10000)
    (H : ∀ k u', bk_S l m b lg (bk_en (bk_en P f d (-y)) t d y) u' → post k u') : wX_transfer_88 post (nI d) (bk_I y) (nI f) (nI t) c l0 m0 b0 wc wl wa a1 a2 a3 a4 a5 a6 a7 a8 a9 := by
  unfold wX_transfer_88
  refine bk_enter hS rfl rfl (bk_I_neg y) (by omega) hf hd (by omega) (by omega) ?_
  intro u' hS'
  obtain ⟨c', l0', m0', b0', wc', wl', wa', d1, d2, d3, d4, d5, d6, d7, d8, d9⟩ := u'
  refine bk_enter hS' rfl rfl rfl (show bk_n P + 1 < 60 by omega) ht hd y1 y2 ?_
  intro u'' hS''
  obtain ⟨c'', l0'', m0'', b0'', wc'', wl'', wa'', g1, g2, g3, g4, g5, g6, g7, g8, g9⟩ := u''
  exact H _ _ hS''
theorem bk_transfer {post : Int32 → St1 → Prop} {l m b : Int32} {lg : Nat → Int32} {P : bk_P} {u : St1} {r d : Nat} {y : Int} {p0 p2 : Int32} (hS : bk_S l m b lg P u) (e0 : p0 = nI r) (e2 : p2 = bk_I y) (hr : r < 16) (hd : d < 48) (y1 : 1 ≤ y) (y2 : y ≤ 10000)
    (H0 : (r / 4 = r % 4 ∨ 58 < bk_n P ∨ (b = 0 ∧ ¬ bk_be P (r / 4) d (-y))) → ∀ k u', bk_S l m b lg P u' → post k u')
    (H : r / 4 ≠ r % 4 → bk_n P ≤ 58 → (b = 0 → bk_be P (r / 4) d (-y)) → ∀ k u', bk_S l m b lg (bk_en (bk_en P (r / 4) d (-y)) (r % 4) d y) u' → post k u') : wpX_transfer post u p0 (nI d) p2 := by
  subst e0 e2
  obtain ⟨c, l0, m0, b0, wc, wl, wa, a1, a2, a3, a4, a5, a6, a7, a8, a9⟩ := u
  have hS2 := hS
  obtain ⟨h1, h2, h3, h4, h5, hW, hE, hT⟩ := hS
  have hn := hW.1
  subst h5
  subst h3
  unfold wpX_transfer
  have s1 : nI r >>> ((2 : Int32) &&& 31) = nI (r / 4) := pk_shrN (by omega) _ 2 (by decide)
  have s2 : nI r &&& 3 = nI (r % 4) := pk_andN (by omega) 2 (by decide)
  have c1 : (bk_I y < 1) ↔ y < 1 := bk_I_lt (y := 1) (by omega) (by omega) (by omega) (by omega)
  have c2 : (bk_I y ≤ 10000) ↔ y ≤ 10000 := bk_I_le (y := 10000) (by omega) (by omega) (by omega) (by omega)
  refine nm_r s1 (nm_r s2 (br_f (nI_pos (by omega)) (pk_lt 15 r (fun z => absurd z (by omega)) (fun _ => ?_))))
  refine pk_eq (r / 4) (r % 4) (fun z => H0 (Or.inl z) _ _ hS2) (fun z => bk_isD hd (br_f (by decide) (ek_if c1 (fun w => absurd w (by omega)) (fun _ => ek_if c2 (fun _ => ?_) (fun w => absurd y2 w)))))
  refine pk_le (bk_n P) 58 (fun g => br_c (fun k => ?_) (fun k => ?_)) (fun g => H0 (Or.inr (Or.inl g)) _ _ hS2)
  · refine bk_bears hS2 rfl rfl (bk_I_neg y) (by omega) hd (by omega) (by omega) (fun w u' hS' => ?_) (fun w u' hS' => ?_)
    · obtain ⟨c', l0', m0', b0', wc', wl', wa', d1, d2, d3, d4, d5, d6, d7, d8, d9⟩ := u'
      exact br_f (by decide) (bk_transfer_88 hS' g (by omega) (by omega) hd (by omega) y2 (H z g (fun _ => w)))
    · obtain ⟨c', l0', m0', b0', wc', wl', wa', d1, d2, d3, d4, d5, d6, d7, d8, d9⟩ := u'
      exact br_t rfl (H0 (Or.inr (Or.inr ⟨k, w⟩)) _ _ hS')
  · exact bk_transfer_88 hS2 g (by omega) (by omega) hd (by omega) y2 (H z g (fun t => absurd t k))
theorem bk_E_cn {P : bk_P} {a1 a2 a3 a4 a5 : Nat → Int32} {e : Nat} (hE : bk_E P a1 a2 a3 a4 a5) : bk_E (bk_cn P e) a1 a2 a3 (upd a4 e 1) a5 := by
  refine ⟨fun i hi => ?_, hE.2⟩
  obtain ⟨g1, g2, g3, g4⟩ := hE.1 i hi
  refine ⟨g1, g2, g3, ?_⟩
  show upd a4 e 1 i = 0 ↔ bk_u (bk_G P) e true i = false
  by_cases k : i = e
  · rw [k, pk_us, bk_us]
    decide
  · rw [pk_un k, bk_un k]
    exact g4
theorem bk_cancel_60 {post : Int32 → St1 → Prop} {l m b : Int32} {lg : Nat → Int32} {P : bk_P} {c l0 m0 b0 wc wl wa : Int32} {a1 a2 a3 a4 a5 a6 a7 a8 a9 : Nat → Int32} {e : Nat} (hS : bk_S l m b lg P (c, l0, m0, b0, wc, wl, wa, a1, a2, a3, a4, a5, a6, a7, a8, a9)) (he : e < bk_n P) (hg : bk_G P e = false)
    (H0 : b = 0 → ∀ k u', bk_S l m b lg (bk_cn P e) u' → post k u')
    (H1 : b ≠ 0 → ∃ p, l = nI p ∧ p < 60 ∧ ∀ k u', bk_S (nI (p + 1)) m b (upd lg p (nI e)) (bk_cn P e) u' → post k u') : wX_cancel_60 post (nI e) (bk_I (bk_M P e)) c l0 m0 b0 wc wl wa a1 a2 a3 a4 a5 a6 a7 a8 a9 := by
  obtain ⟨h1, h2, h3, h4, h5, hW, hE, hT⟩ := hS
  have hn := hW.1
  obtain ⟨w1, w2, w3, w4⟩ := hW.2.1 e he
  obtain ⟨g1, g2, g3, g4⟩ := hE.1 e he
  have ie : vp_in (nI e) 60 := pk_in e 60 (by omega)
  have ce : (nI e).toNatClampNeg = e := nI_clamp (by omega)
  unfold wX_cancel_60
  refine ⟨ie, nm_r (show _ = upd a4 e 1 by rw [ce]) ⟨ie, ie, bk_add (by rw [ce]; exact g1) (by rw [ce]; exact g2) (bk_I_neg _) w1 (by omega) hT ?_⟩⟩
  intro b6 b7 b8 hT'
  rw [← bk_L_cn P e he hg] at hT'
  subst h1 h3 h4
  refine br_c (fun z => H0 z _ _ ⟨rfl, h2, rfl, rfl, h5, hW, bk_E_cn hE, hT'⟩) (fun z => ?_)
  obtain ⟨p, hp, hp2, Hp⟩ := H1 z
  subst hp
  refine ⟨pk_in p 60 hp2, nm_r (show _ = upd a9 p (nI e) by rw [nI_clamp (by omega)]) (nm_r (nI_1 p) (Hp _ _ ⟨rfl, h2, rfl, rfl, h5, hW, bk_E_cn hE, hT'⟩))⟩
theorem bk_cancel {post : Int32 → St1 → Prop} {l m b : Int32} {lg : Nat → Int32} {P : bk_P} {u : St1} {e : Nat} {p0 : Int32} (hS : bk_S l m b lg P u) (e0 : p0 = nI e) (he : e < 64)
    (HN : (bk_n P ≤ e ∨ bk_G P e = true ∨ (b = 0 ∧ ¬ bk_be P (bk_A P e) (bk_D P e) (-bk_M P e))) → ∀ k u', bk_S l m b lg P u' → post k u')
    (H0 : e < bk_n P → bk_G P e = false → b = 0 → bk_be P (bk_A P e) (bk_D P e) (-bk_M P e) → ∀ k u', bk_S l m b lg (bk_cn P e) u' → post k u')
    (H1 : e < bk_n P → bk_G P e = false → b ≠ 0 → ∃ p, l = nI p ∧ p < 60 ∧ ∀ k u', bk_S (nI (p + 1)) m b (upd lg p (nI e)) (bk_cn P e) u' → post k u') : wpX_cancel post u p0 := by
  subst e0
  obtain ⟨c, l0, m0, b0, wc, wl, wa, a1, a2, a3, a4, a5, a6, a7, a8, a9⟩ := u
  have hS2 := hS
  obtain ⟨h1, h2, h3, h4, h5, hW, hE, hT⟩ := hS
  have hn := hW.1
  subst h5
  subst h3
  unfold wpX_cancel wpX_isEntry
  refine br_f (nI_pos (by omega)) (pk_le (bk_n P) e (fun z => br_t rfl (HN (Or.inl z) _ _ hS2)) (fun z => br_f (by decide) ?_))
  obtain ⟨w1, w2, w3, w4⟩ := hW.2.1 e z
  obtain ⟨g1, g2, g3, g4⟩ := hE.1 e z
  have ie : vp_in (nI e) 60 := pk_in e 60 (by omega)
  have ce : (nI e).toNatClampNeg = e := nI_clamp (by omega)
  refine ⟨ie, ek_if (show _ ↔ bk_G P e = false by rw [ce]; exact g4) (fun y => ⟨ie, nm_r (show _ = bk_I (bk_M P e) by rw [ce]; exact g3) ?_⟩) (fun y => HN (Or.inr (Or.inl (by
    cases h : bk_G P e with
    | true => rfl
    | false => exact absurd h y))) _ _ hS2)⟩
  refine br_c (fun k => ⟨ie, ie, ?_⟩) (fun k => ?_)
  · refine bk_bears hS2 (by rw [ce]; exact g1) (by rw [ce]; exact g2) (bk_I_neg _) w1 w2 (by omega) (by omega) (fun w u' hS' => ?_) (fun w u' hS' => ?_)
    · obtain ⟨c', l0', m0', b0', wc', wl', wa', d1, d2, d3, d4, d5, d6, d7, d8, d9⟩ := u'
      exact br_f (by decide) (bk_cancel_60 hS' z y (fun k => H0 z y k w) (fun k2 => absurd k k2))
    · obtain ⟨c', l0', m0', b0', wc', wl', wa', d1, d2, d3, d4, d5, d6, d7, d8, d9⟩ := u'
      exact br_t rfl (HN (Or.inr (Or.inr ⟨k, w⟩)) _ _ hS')
  · exact bk_cancel_60 hS2 z y (fun k2 => absurd k2 k) (H1 z y)
theorem bk_floor {post : Int32 → St1 → Prop} {l m b : Int32} {lg : Nat → Int32} {P : bk_P} {u : St1} {a : Nat} {f : Int} {p1 : Int32} (hS : bk_S l m b lg P u) (e1 : p1 = bk_I f) (ha : a < 4) (f1 : -10000 ≤ f) (f2 : f ≤ 10000)
    (HN : (b ≠ 0 ∨ ¬ f ≤ bk_lo (bk_L P a) 0 48) → ∀ k u', bk_S l m b lg P u' → post k u')
    (H : b = 0 → f ≤ bk_lo (bk_L P a) 0 48 → ∀ k u', bk_S l m b lg (bk_fl P a f) u' → post k u') : wpX_floor post u (nI a) p1 := by
  subst e1
  obtain ⟨c, l0, m0, b0, wc, wl, wa, a1, a2, a3, a4, a5, a6, a7, a8, a9⟩ := u
  have hS2 := hS
  obtain ⟨h1, h2, h3, h4, h5, hW, hE, hT⟩ := hS
  subst h3
  unfold wpX_floor
  have c1 : (bk_I f < (-10000)) ↔ f < -10000 := bk_I_lt (y := -10000) (by omega) (by omega) (by omega) (by omega)
  have c2 : (bk_I f ≤ 10000) ↔ f ≤ 10000 := bk_I_le (y := 10000) (by omega) (by omega) (by omega) (by omega)
  refine bk_isA ha (br_f (by decide) (ek_if c1 (fun z => absurd z (by omega)) (fun _ => ek_if c2 (fun _ => br_c (fun y => ?_) (fun y => HN (Or.inl y) _ _ hS2)) (fun z => absurd f2 z))))
  refine bk_walkS (s := 0) (e := 48) hS2 ha (by omega) (by omega) (bk_ws_a 48 (by omega)) (by decide) ?_
  intro u' hS' _ hl
  obtain ⟨c', l0', m0', b0', wc', wl', wa', d1, d2, d3, d4, d5, d6, d7, d8, d9⟩ := u'
  have hl' : wl' = bk_I (bk_lo (bk_L P a) 0 48) := hl
  have hS3 := hS'
  obtain ⟨h1', h2', h3', h4', h5', hW', hE', hT'⟩ := hS'
  have hb := bk_L_bd hW a
  have b1 := bk_lo_lo hb 0 48
  have b2 : bk_lo (bk_L P a) 0 48 ≤ 600000 := bk_lo_1 hb 0 47
  have hc : (bk_I f ≤ wl') ↔ f ≤ bk_lo (bk_L P a) 0 48 := by
    rw [hl', bk_I_le (by omega) (by omega) (by omega) (by omega)]
  have ia : vp_in (nI a) 4 := pk_in a 4 ha
  refine ek_if hc (fun z => ⟨ia, nm_e ⟨ia, nm_r (show _ = upd d5 a (bk_I f) by rw [nI_clamp (by omega)]) (H y z _ _ ⟨h1', h2', h3', h4', h5', bk_W_fl hW f1 f2, ⟨hE'.1, fun i hi => ?_⟩, hT'⟩)⟩⟩) (fun z => HN (Or.inr z) _ _ hS3)
  show upd d5 a (bk_I f) i = bk_I (bk_u (bk_F P) a f i)
  by_cases k : i = a
  · rw [k, pk_us, bk_us]
  · rw [pk_un k, bk_un k]
    exact hE'.2 i hi
theorem bk_open {post : Int32 → St1 → Prop} {l m b : Int32} {lg : Nat → Int32} {P : bk_P} {u : St1} (hS : bk_S l m b lg P u)
    (H0 : b = 0 → ∀ k u', bk_S 0 (nI (bk_n P)) 1 lg P u' → post k u') (H1 : b ≠ 0 → ∀ k u', bk_S l m b lg P u' → post k u') : wpX_open post u := by
  obtain ⟨c, l0, m0, b0, wc, wl, wa, a1, a2, a3, a4, a5, a6, a7, a8, a9⟩ := u
  have hS2 := hS
  obtain ⟨h1, h2, h3, h4, h5, hW, hE, hT⟩ := hS
  subst h3
  exact br_c (fun z => H0 z _ _ ⟨rfl, h5, rfl, h4, h5, hW, hE, hT⟩) (fun z => H1 z _ _ hS2)
theorem bk_balance {post : Int32 → St1 → Prop} {l m b : Int32} {lg : Nat → Int32} {P : bk_P} {u : St1} {a d : Nat} (hS : bk_S l m b lg P u) (ha : a < 4) (hd : d < 48) (H : ∀ u', bk_S l m b lg P u' → post (bk_I (bk_sg (bk_L P a) 0 (d + 1))) u') : wpX_balance post u (nI a) (nI d) := by
  obtain ⟨c, l0, m0, b0, wc, wl, wa, a1, a2, a3, a4, a5, a6, a7, a8, a9⟩ := u
  unfold wpX_balance
  refine bk_isA ha (br_f (by decide) (bk_isD hd (br_f (by decide) (bk_walkS (s := 0) (e := d + 1) hS ha (by omega) (by omega) (bk_ws_a (d + 1) (by omega)) (nI_pred d).symm ?_))))
  intro u' hS' hc _
  obtain ⟨c', l0', m0', b0', wc', wl', wa', d1, d2, d3, d4, d5, d6, d7, d8, d9⟩ := u'
  have hc' : wc' = bk_I (bk_sg (bk_L P a) 0 (d + 1)) := hc
  subst hc'
  exact H _ hS'
end
section
/-! ===== how many entries are gone ===== -/
def bk_cg (G : Nat → Bool) : Nat → Nat
  | 0 => 0
  | n + 1 => bk_cg G n + (if G n = true then 1 else 0)
theorem bk_cg_le (G : Nat → Bool) : ∀ n, bk_cg G n ≤ n := by
  intro n
  induction n with
  | zero => exact Nat.le_refl 0
  | succ n ih =>
    show bk_cg G n + (if G n = true then 1 else 0) ≤ n + 1
    by_cases c : G n = true
    · rw [if_pos c]; omega
    · rw [if_neg c]; omega
theorem bk_cg_congr {G G' : Nat → Bool} : ∀ n, (∀ e, e < n → G e = G' e) → bk_cg G n = bk_cg G' n := by
  intro n
  induction n with
  | zero => exact fun _ => rfl
  | succ n ih =>
    intro h
    show bk_cg G n + (if G n = true then 1 else 0) = bk_cg G' n + (if G' n = true then 1 else 0)
    rw [ih (fun e he => h e (by omega)), h n (by omega)]
theorem bk_cg_set {G : Nat → Bool} {e : Nat} (hg : G e = false) : ∀ n, e < n → bk_cg (bk_u G e true) n = bk_cg G n + 1 := by
  intro n
  induction n with
  | zero => exact fun h => absurd h (Nat.not_lt_zero e)
  | succ n ih =>
    intro h
    show bk_cg (bk_u G e true) n + (if bk_u G e true n = true then 1 else 0) = bk_cg G n + (if G n = true then 1 else 0) + 1
    by_cases c : e = n
    · subst c
      rw [bk_cg_congr (G := bk_u G e true) (G' := G) e (fun j hj => bk_un (by omega)), bk_us, hg]
      rfl
    · rw [ih (by omega), bk_un (show n ≠ e by omega)]
      omega
theorem bk_beq {x y : Bool} (h : x = false ↔ y = false) : x = y := by
  cases x with
  | false => exact (h.mp rfl).symm
  | true =>
    cases y with
    | false => exact h.mpr rfl
    | true => rfl
/-! ===== a batch under way: Q over P, the log tells which of P's entries were cancelled ===== -/
def bk_R (P : bk_P) (p : Nat) (lg : Nat → Int32) (Q : bk_P) : Prop :=
  bk_n P ≤ bk_n Q ∧ (∀ e, e < bk_n P → bk_A Q e = bk_A P e ∧ bk_D Q e = bk_D P e ∧ bk_M Q e = bk_M P e) ∧ bk_F Q = bk_F P ∧ p ≤ bk_cg (bk_G Q) (bk_n Q) ∧
  ∃ g : Nat → Nat, (∀ k, k < p → g k < bk_n Q ∧ lg k = nI (g k) ∧ bk_G Q (g k) = true) ∧ (∀ j k, j < k → k < p → g j ≠ g k) ∧ (∀ e, e < bk_n P → (bk_G P e = false ↔ (bk_G Q e = false ∨ ∃ k, k < p ∧ g k = e)))
theorem bk_R_0 (P : bk_P) (lg : Nat → Int32) : bk_R P 0 lg P :=
  ⟨Nat.le_refl _, fun e _ => ⟨rfl, rfl, rfl⟩, rfl, Nat.zero_le _, fun _ => 0, fun k hk => absurd hk (Nat.not_lt_zero k), fun j k _ hk => absurd hk (Nat.not_lt_zero k), fun e _ => ⟨fun h => Or.inl h, fun h => h.elim id (fun ⟨k, hk, _⟩ => absurd hk (Nat.not_lt_zero k))⟩⟩
theorem bk_R_en {P Q : bk_P} {p : Nat} {lg : Nat → Int32} {a d : Nat} {x : Int} (h : bk_R P p lg Q) : bk_R P p lg (bk_en Q a d x) := by
  obtain ⟨h1, h2, h3, h4, g, h5, h6, h7⟩ := h
  refine ⟨Nat.le_succ_of_le h1, fun e he => ?_, h3, ?_, g, fun k hk => ?_, h6, fun e he => ?_⟩
  · show bk_u (bk_A Q) (bk_n Q) a e = bk_A P e ∧ bk_u (bk_D Q) (bk_n Q) d e = bk_D P e ∧ bk_u (bk_M Q) (bk_n Q) x e = bk_M P e
    rw [bk_un (by omega), bk_un (by omega), bk_un (by omega)]
    exact h2 e he
  · show p ≤ bk_cg (bk_u (bk_G Q) (bk_n Q) false) (bk_n Q) + _
    rw [bk_cg_congr (G := bk_u (bk_G Q) (bk_n Q) false) (G' := bk_G Q) (bk_n Q) (fun j hj => bk_un (by omega))]
    omega
  · obtain ⟨k1, k2, k3⟩ := h5 k hk
    refine ⟨Nat.lt_succ_of_lt k1, k2, ?_⟩
    show bk_u (bk_G Q) (bk_n Q) false (g k) = true
    rw [bk_un (by omega)]
    exact k3
  · show _ ↔ (bk_u (bk_G Q) (bk_n Q) false e = false ∨ _)
    rw [bk_un (by omega)]
    exact h7 e he
theorem bk_R_cn {P Q : bk_P} {p : Nat} {lg : Nat → Int32} {e : Nat} (h : bk_R P p lg Q) (he : e < bk_n Q) (hg : bk_G Q e = false) : bk_R P (p + 1) (upd lg p (nI e)) (bk_cn Q e) := by
  obtain ⟨h1, h2, h3, h4, g, h5, h6, h7⟩ := h
  refine ⟨h1, h2, h3, ?_, bk_u g p e, fun k hk => ?_, fun j k hj hk => ?_, fun i hi => ?_⟩
  · show p + 1 ≤ bk_cg (bk_u (bk_G Q) e true) (bk_n Q)
    rw [bk_cg_set hg _ he]
    omega
  · show bk_u g p e k < bk_n Q ∧ upd lg p (nI e) k = nI (bk_u g p e k) ∧ bk_u (bk_G Q) e true (bk_u g p e k) = true
    by_cases c : k = p
    · rw [c, bk_us, pk_us, bk_us]
      exact ⟨he, rfl, rfl⟩
    · obtain ⟨k1, k2, k3⟩ := h5 k (by omega)
      rw [bk_un c, pk_un c]
      refine ⟨k1, k2, ?_⟩
      by_cases c2 : g k = e
      · rw [c2, bk_us]
      · rw [bk_un c2]
        exact k3
  · rw [bk_un (show j ≠ p by omega)]
    by_cases c : k = p
    · rw [c, bk_us]
      intro z
      have k3 := (h5 j (by omega)).2.2
      rw [z, hg] at k3
      exact absurd k3 (by decide)
    · rw [bk_un c]
      exact h6 j k hj (by omega)
  · show bk_G P i = false ↔ (bk_u (bk_G Q) e true i = false ∨ ∃ k, k < p + 1 ∧ bk_u g p e k = i)
    by_cases c : i = e
    · subst c
      exact ⟨fun _ => Or.inr ⟨p, by omega, bk_us _ _ _⟩, fun _ => (h7 i hi).mpr (Or.inl hg)⟩
    · rw [bk_un c, h7 i hi]
      constructor
      · rintro (z | ⟨k, hk, z⟩)
        · exact Or.inl z
        · exact Or.inr ⟨k, by omega, by rw [bk_un (by omega)]; exact z⟩
      · rintro (z | ⟨k, hk, z⟩)
        · exact Or.inl z
        · by_cases c2 : k = p
          · rw [c2, bk_us] at z
            exact absurd z.symm c
          · rw [bk_un c2] at z
            exact Or.inr ⟨k, by omega, z⟩
theorem bk_R_room {P Q : bk_P} {p : Nat} {lg : Nat → Int32} {e : Nat} (h : bk_R P p lg Q) (hW : bk_W Q) (he : e < bk_n Q) (hg : bk_G Q e = false) : p < 60 := by
  have h1 := bk_cg_set hg _ he
  have h2 := bk_cg_le (bk_u (bk_G Q) e true) (bk_n Q)
  have h3 := h.2.2.2.1
  have h4 := hW.1
  omega
/-! ===== close ===== -/
theorem bk_close_85 {post : Int32 → St1 → Prop} {P Q : bk_P} {p : Nat} {g : Nat → Nat} {c b0 wc wl wa : Int32} {a1 a2 a3 a5 a9 : Nat → Int32}
    (hW : bk_W Q) (hn : bk_n P ≤ bk_n Q) (hp : p ≤ 60)
    (hE : ∀ e, e < bk_n Q → a1 e = nI (bk_A Q e) ∧ a2 e = nI (bk_D Q e) ∧ a3 e = bk_I (bk_M Q e))
    (hg : ∀ k, k < p → g k < bk_n Q ∧ a9 k = nI (g k)) (hd : ∀ j k, j < k → k < p → g j ≠ g k)
    (H : ∀ a4 a6 a7 a8, (∀ e, e < bk_n P → (a4 e = 0 ↔ bk_G P e = false)) → bk_T (bk_lf (bk_A Q) (bk_D Q) (bk_M Q) (bk_G P) (bk_n P)) a6 a7 → post 0 (nI (bk_n P), nI p, nI (bk_n P), b0, wc, wl, wa, a1, a2, a3, a4, a5, a6, a7, a8, a9)) :
    ∀ j k n a4 a6 a7 a8 (G : Nat → Bool), k + j = p → j < n → bk_T (bk_lf (bk_A Q) (bk_D Q) (bk_M Q) G (bk_n P)) a6 a7 → (∀ e, e < bk_n P → (a4 e = 0 ↔ G e = false)) → (∀ e, e < bk_n P → (bk_G P e = false ↔ (G e = false ∨ ∃ i, k ≤ i ∧ i < p ∧ g i = e))) → (∀ i, k ≤ i → i < p → g i < bk_n P → G (g i) = true) →
    wX_close_85 post n (nI k) c (nI p) (nI (bk_n P)) b0 wc wl wa a1 a2 a3 a4 a5 a6 a7 a8 a9 := by
  have hn60 := hW.1
  intro j
  induction j with
  | zero =>
    intro k n a4 a6 a7 a8 G hk hn' hT h4 hG hL
    obtain ⟨n, rfl⟩ : ∃ k, n = k + 1 := ⟨n - 1, by omega⟩
    have hGe : ∀ e, e < bk_n P → G e = bk_G P e := fun e he => bk_beq (by
      rw [hG e he]
      exact ⟨fun z => Or.inl z, fun z => z.elim id (fun ⟨i, i1, i2, _⟩ => absurd i1 (by omega))⟩)
    refine pk_le p k (fun _ => H a4 a6 a7 a8 (fun e he => ?_) ?_) (fun z => absurd z (by omega))
    · rw [← hGe e he]
      exact h4 e he
    · rw [bk_lf_congr (A' := bk_A Q) (D' := bk_D Q) (M' := bk_M Q) (G' := bk_G P) (bk_n P) (fun e he => ⟨rfl, rfl, rfl, hGe e he⟩)] at hT
      exact hT
  | succ j ih =>
    intro k n a4 a6 a7 a8 G hk hn' hT h4 hG hL
    obtain ⟨n, rfl⟩ : ∃ k, n = k + 1 := ⟨n - 1, by omega⟩
    obtain ⟨g1, g2⟩ := hg k (by omega)
    have e9 : a9 (nI k).toNatClampNeg = nI (g k) := by rw [nI_clamp (by omega)]; exact g2
    refine pk_le p k (fun z => absurd z (by omega)) (fun _ => ⟨pk_in k 60 (by omega), nm_r e9 (pk_le (bk_n P) (g k) (fun z => nm_r (nI_1 k) ?_) (fun z => ?_))⟩)
    · refine ih (k + 1) n a4 a6 a7 a8 G (by omega) (by omega) hT h4 (fun e he => ?_) (fun i i1 i2 => hL i (by omega) i2)
      rw [hG e he]
      constructor
      · rintro (y | ⟨i, i1, i2, i3⟩)
        · exact Or.inl y
        · by_cases c : i = k
          · rw [c] at i3
            exact absurd i3 (by omega)
          · exact Or.inr ⟨i, by omega, i2, i3⟩
      · rintro (y | ⟨i, i1, i2, i3⟩)
        · exact Or.inl y
        · exact Or.inr ⟨i, by omega, i2, i3⟩
    · have ie : vp_in (nI (g k)) 60 := pk_in (g k) 60 (by omega)
      have ce : (nI (g k)).toNatClampNeg = g k := nI_clamp (by omega)
      obtain ⟨w1, w2, w3, w4⟩ := hW.2.1 (g k) g1
      obtain ⟨q1, q2, q3⟩ := hE (g k) g1
      refine ⟨ie, nm_r (show _ = upd a4 (g k) 0 by rw [ce]) ⟨ie, ie, ie, bk_add (by rw [ce]; exact q1) (by rw [ce]; exact q2) (by rw [ce]; exact q3) w1 (by omega) hT ?_⟩⟩
      intro b6 b7 b8 hT'
      have hf := bk_lf_flip (A := bk_A Q) (D := bk_D Q) (M := bk_M Q) (G := G) (e := g k) (bk_n P) z
      rw [bk_ur G (g k) true (hL k (by omega) (by omega) z)] at hf
      rw [← hf] at hT'
      refine nm_r (nI_1 k) (ih (k + 1) n _ b6 b7 b8 (bk_u G (g k) false) (by omega) (by omega) hT' (fun e he => ?_) (fun e he => ?_) (fun i i1 i2 i3 => ?_))
      · by_cases c : e = g k
        · rw [c, pk_us, bk_us]
          exact ⟨fun _ => rfl, fun _ => rfl⟩
        · rw [pk_un c, bk_un c]
          exact h4 e he
      · rw [hG e he]
        by_cases c : e = g k
        · rw [c, bk_us]
          exact ⟨fun _ => Or.inl rfl, fun _ => Or.inr ⟨k, by omega, by omega, rfl⟩⟩
        · rw [bk_un c]
          constructor
          · rintro (y | ⟨i, i1, i2, i3⟩)
            · exact Or.inl y
            · by_cases c2 : i = k
              · rw [c2] at i3
                exact absurd i3.symm c
              · exact Or.inr ⟨i, by omega, i2, i3⟩
          · rintro (y | ⟨i, i1, i2, i3⟩)
            · exact Or.inl y
            · exact Or.inr ⟨i, by omega, i2, i3⟩
      · rw [bk_un (fun y => hd k i (by omega) i2 y.symm)]
        exact hL i (by omega) i2 i3
theorem bk_pm1 (e : Nat) : nI e + (-1) = nI e - 1 := by
  rw [bk_I_m1, bk_I_n, show (-1 : Int32) = bk_I (-1) by decide, bk_I_add]
  rfl
theorem bk_close_30 {post : Int32 → St1 → Prop} {P Q : bk_P} {p : Nat} {g : Nat → Nat} {c b0 wc wl wa : Int32} {a1 a2 a3 a5 a9 : Nat → Int32}
    (hW : bk_W Q) (hn : bk_n P ≤ bk_n Q) (hp : p ≤ 60)
    (hE : ∀ e, e < bk_n Q → a1 e = nI (bk_A Q e) ∧ a2 e = nI (bk_D Q e) ∧ a3 e = bk_I (bk_M Q e))
    (hg : ∀ k, k < p → g k < bk_n Q ∧ a9 k = nI (g k) ∧ bk_G Q (g k) = true) (hd : ∀ j k, j < k → k < p → g j ≠ g k) (hG : ∀ e, e < bk_n P → (bk_G P e = false ↔ (bk_G Q e = false ∨ ∃ k, k < p ∧ g k = e)))
    (H : ∀ a4 a6 a7 a8, (∀ e, e < bk_n P → (a4 e = 0 ↔ bk_G P e = false)) → bk_T (bk_lf (bk_A Q) (bk_D Q) (bk_M Q) (bk_G P) (bk_n P)) a6 a7 → post 0 (nI (bk_n P), nI p, nI (bk_n P), b0, wc, wl, wa, a1, a2, a3, a4, a5, a6, a7, a8, a9)) :
    ∀ j n a4 a6 a7 a8, bk_n P + j ≤ bk_n Q → j < n → bk_T (bk_lf (bk_A Q) (bk_D Q) (bk_M Q) (bk_G Q) (bk_n P + j)) a6 a7 → (∀ e, e < bk_n P + j → (a4 e = 0 ↔ bk_G Q e = false)) →
    wX_close_30 post n (nI (bk_n P + j) - 1) c (nI p) (nI (bk_n P)) b0 wc wl wa a1 a2 a3 a4 a5 a6 a7 a8 a9 := by
  have hn60 := hW.1
  intro j
  induction j with
  | zero =>
    intro n a4 a6 a7 a8 hj hn' hT h4
    obtain ⟨n, rfl⟩ : ∃ k, n = k + 1 := ⟨n - 1, by omega⟩
    have hx : nI (bk_n P + 0) - 1 < nI (bk_n P) := by
      rw [bk_I_m1, bk_I_n, bk_I_lt (by omega) (by omega) (by omega) (by omega)]
      omega
    refine br_t hx ⟨p + 1, ?_⟩
    exact bk_close_85 hW hn hp hE (fun k hk => ⟨(hg k hk).1, (hg k hk).2.1⟩) hd H p 0 (p + 1) a4 a6 a7 a8 (bk_G Q) (by omega) (by omega) hT h4
      (fun e he => by
        rw [hG e he]
        exact ⟨fun z => z.elim Or.inl (fun ⟨k, k1, k2⟩ => Or.inr ⟨k, Nat.zero_le k, k1, k2⟩), fun z => z.elim Or.inl (fun ⟨k, _, k1, k2⟩ => Or.inr ⟨k, k1, k2⟩)⟩)
      (fun i _ i2 _ => (hg i i2).2.2)
  | succ j ih =>
    intro n a4 a6 a7 a8 hj hn' hT h4
    obtain ⟨n, rfl⟩ : ∃ k, n = k + 1 := ⟨n - 1, by omega⟩
    rw [show bk_n P + (j + 1) = bk_n P + j + 1 by omega] at hT h4 ⊢
    rw [nI_pred]
    have hi : bk_n P + j < bk_n Q := by omega
    have hP : bk_n P ≤ bk_n P + j := by omega
    have ih' := ih n
    generalize bk_n P + j = i at hT h4 hi hP ih' ⊢
    have ie : vp_in (nI i) 60 := pk_in i 60 (by omega)
    have ce : (nI i).toNatClampNeg = i := nI_clamp (by omega)
    obtain ⟨w1, w2, w3, w4⟩ := hW.2.1 i hi
    obtain ⟨q1, q2, q3⟩ := hE i hi
    refine pk_lt i (bk_n P) (fun z => absurd z (by omega)) (fun _ => ⟨ie, ek_if (show _ ↔ bk_G Q i = false by rw [ce]; exact h4 i (by omega)) (fun z => ?_) (fun z => ?_)⟩)
    · rw [bk_lf_f z] at hT
      refine ⟨ie, ie, ie, bk_add (by rw [ce]; exact q1) (by rw [ce]; exact q2) (by rw [ce, q3]; exact bk_I_neg _) w1 (by omega) hT ?_⟩
      intro b6 b7 b8 hT'
      rw [bk_pt_inv _ _ _ _ _ (by omega)] at hT'
      refine ⟨ie, nm_r (show _ = upd a4 i 0 by rw [ce]) (nm_r (bk_pm1 i) (ih' _ b6 b7 b8 (by omega) (by omega) hT' (fun e he => ?_)))⟩
      rw [pk_un (by omega)]
      exact h4 e (by omega)
    · rw [bk_lf_t (show bk_G Q i = true by
        cases h : bk_G Q i with
        | true => rfl
        | false => exact absurd h z)] at hT
      refine ⟨ie, nm_r (show _ = upd a4 i 0 by rw [ce]) (nm_r (bk_pm1 i) (ih' _ a6 a7 a8 (by omega) (by omega) hT (fun e he => ?_)))⟩
      rw [pk_un (by omega)]
      exact h4 e (by omega)
theorem bk_close {post : Int32 → St1 → Prop} {P Q : bk_P} {p : Nat} {lg : Nat → Int32} {u : St1} (hS : bk_S (nI p) (nI (bk_n P)) 1 lg Q u) (hR : bk_R P p lg Q)
    (H1 : bk_ok Q → ∀ u', bk_S (nI p) (nI (bk_n P)) 0 lg Q u' → post 1 u') (H0 : ∀ u', bk_S (nI p) (nI (bk_n P)) 0 lg P u' → post 0 u') : wpX_close post u := by
  obtain ⟨c, l0, m0, b0, wc, wl, wa, a1, a2, a3, a4, a5, a6, a7, a8, a9⟩ := u
  obtain ⟨h1, h2, h3, h4, h5, hW, hE, hT⟩ := hS
  subst h3
  unfold wpX_close
  refine br_f (by decide) (bk_isSound (l := nI p) (m := nI (bk_n P)) (b := 0) (lg := lg) (P := Q) ⟨h1, h2, rfl, h4, h5, hW, hE, hT⟩ (fun ho u' hS' => ?_) (fun ho u' hS' => ?_))
  · obtain ⟨c', l0', m0', b0', wc', wl', wa', d1, d2, d3, d4, d5, d6, d7, d8, d9⟩ := u'
    exact br_f (by decide) (H1 ho _ hS')
  · obtain ⟨c', l0', m0', b0', wc', wl', wa', d1, d2, d3, d4, d5, d6, d7, d8, d9⟩ := u'
    obtain ⟨k1, k2, k3, k4, k5, _, kE, kT⟩ := hS'
    subst k1 k2 k3 k4 k5
    obtain ⟨r1, r2, r3, r4, g, r5, r6, r7⟩ := hR
    have hn := hW.1
    have hcg := bk_cg_le (bk_G Q) (bk_n Q)
    have hj : bk_n P + (bk_n Q - bk_n P) = bk_n Q := by omega
    have hWP : bk_W P := ⟨by omega, fun e he => by
      obtain ⟨s1, s2, s3⟩ := r2 e he
      rw [← s1, ← s2, ← s3]
      exact hW.2.1 e (by omega), by rw [← r3]; exact hW.2.2⟩
    have hL : bk_lf (bk_A Q) (bk_D Q) (bk_M Q) (bk_G P) (bk_n P) = bk_L P := bk_lf_congr (bk_n P) (fun e he => ⟨(r2 e he).1, (r2 e he).2.1, (r2 e he).2.2, rfl⟩)
    have g30 := bk_close_30 (post := post) (P := P) (Q := Q) (p := p) (g := g) (c := nI (bk_n Q)) (b0 := 0) (wc := wc') (wl := wl') (wa := wa') (a1 := d1) (a2 := d2) (a3 := d3) (a5 := d5) (a9 := d9) hW r1 (by omega) (fun e he => ⟨(kE.1 e he).1, (kE.1 e he).2.1, (kE.1 e he).2.2.1⟩) r5 r6 r7
      (fun x4 x6 x7 x8 hx4 hT' => H0 _ ⟨rfl, rfl, rfl, rfl, rfl, hWP, ⟨fun e he => by
        obtain ⟨s1, s2, s3⟩ := r2 e he
        obtain ⟨q1, q2, q3, _⟩ := kE.1 e (by omega)
        rw [s1] at q1
        rw [s2] at q2
        rw [s3] at q3
        exact ⟨q1, q2, q3, hx4 e he⟩, by rw [← r3]; exact kE.2⟩, by rw [← hL]; exact hT'⟩)
      (bk_n Q - bk_n P) (bk_n Q - bk_n P + 1) d4 d6 d7 d8 (by omega) (by omega) (by rw [hj]; exact kT) (by rw [hj]; exact fun e he => (kE.1 e he).2.2.2)
    rw [hj] at g30
    exact br_t rfl (nm_e ⟨_, g30⟩)
/-! ===== undone ===== -/
theorem bk_undone_9 {post : Int32 → St3 → Prop} {J : Int32 → Int32 → Int32 → Int32 → Int32 → Int32 → Int32 → Int32 → (Nat → Int32) → (Nat → Int32) → (Nat → Int32) → (Nat → Int32) → (Nat → Int32) → (Nat → Int32) → (Nat → Int32) → (Nat → Int32) → (Nat → Int32) → Int32 → Int32 → Int32 → Int32 → Int32 → Int32 → Int32 → (Nat → Int32) → (Nat → Int32) → (Nat → Int32) → (Nat → Int32) → (Nat → Int32) → (Nat → Int32) → (Nat → Int32) → (Nat → Int32) → (Nat → Int32) → Prop}
    {l m b l' m' b' : Int32} {lg lg' : Nat → Int32} {P : bk_P} {a : Nat} (ha : a < 4)
    (HJ : ∀ c l0 m0 b0 wc wl wa a1 a2 a3 a4 a5 a6 a7 a8 a9 c' l0' m0' b0' wc' wl' wa' d1 d2 d3 d4 d5 d6 d7 d8 d9, bk_S l m b lg P (c, l0, m0, b0, wc, wl, wa, a1, a2, a3, a4, a5, a6, a7, a8, a9) → bk_S l' m' b' lg' P (c', l0', m0', b0', wc', wl', wa', d1, d2, d3, d4, d5, d6, d7, d8, d9) → J (nI (a + 1)) c l0 m0 b0 wc wl wa a1 a2 a3 a4 a5 a6 a7 a8 a9 c' l0' m0' b0' wc' wl' wa' d1 d2 d3 d4 d5 d6 d7 d8 d9) :
    ∀ j d n c l0 m0 b0 wc wl wa a1 a2 a3 a4 a5 a6 a7 a8 a9 c' l0' m0' b0' wc' wl' wa' d1 d2 d3 d4 d5 d6 d7 d8 d9, d + j = 48 → j < n → bk_S l m b lg P (c, l0, m0, b0, wc, wl, wa, a1, a2, a3, a4, a5, a6, a7, a8, a9) → bk_S l' m' b' lg' P (c', l0', m0', b0', wc', wl', wa', d1, d2, d3, d4, d5, d6, d7, d8, d9) → wL_undone_9 post J (nI a) n (nI d) c l0 m0 b0 wc wl wa a1 a2 a3 a4 a5 a6 a7 a8 a9 c' l0' m0' b0' wc' wl' wa' d1 d2 d3 d4 d5 d6 d7 d8 d9 := by
  intro j
  induction j with
  | zero =>
    intro d n c l0 m0 b0 wc wl wa a1 a2 a3 a4 a5 a6 a7 a8 a9 c' l0' m0' b0' wc' wl' wa' d1 d2 d3 d4 d5 d6 d7 d8 d9 hd hn hS hS'
    obtain ⟨n, rfl⟩ : ∃ k, n = k + 1 := ⟨n - 1, by omega⟩
    exact pk_le 48 d (fun _ => nm_r (nI_1 a) (HJ _ _ _ _ _ _ _ _ _ _ _ _ _ _ _ _ _ _ _ _ _ _ _ _ _ _ _ _ _ _ _ _ hS hS')) (fun z => absurd z (by omega))
  | succ j ih =>
    intro d n c l0 m0 b0 wc wl wa a1 a2 a3 a4 a5 a6 a7 a8 a9 c' l0' m0' b0' wc' wl' wa' d1 d2 d3 d4 d5 d6 d7 d8 d9 hd hn hS hS'
    obtain ⟨n, rfl⟩ : ∃ k, n = k + 1 := ⟨n - 1, by omega⟩
    refine pk_le 48 d (fun z => absurd z (by omega)) (fun _ => ?_)
    clear HJ
    refine bk_balance hS ha (by omega) ?_
    clear hS
    clear c l0 m0 b0 wc wl wa a1 a2 a3 a4 a5 a6 a7 a8 a9
    intro u hS
    obtain ⟨c, l0, m0, b0, wc, wl, wa, a1, a2, a3, a4, a5, a6, a7, a8, a9⟩ := u
    refine bk_balance hS' ha (by omega) ?_
    clear hS'
    clear c' l0' m0' b0' wc' wl' wa' d1 d2 d3 d4 d5 d6 d7 d8 d9
    intro u hS'
    obtain ⟨c', l0', m0', b0', wc', wl', wa', d1, d2, d3, d4, d5, d6, d7, d8, d9⟩ := u
    exact br_t rfl (nm_r (nI_1 d) (ih (d + 1) n _ _ _ _ _ _ _ _ _ _ _ _ _ _ _ _ _ _ _ _ _ _ _ _ _ _ _ _ _ _ _ _ (by omega) (by omega) hS hS'))
theorem bk_undone_2 {post : Int32 → St3 → Prop} {l m b l' m' b' : Int32} {lg lg' : Nat → Int32} {P : bk_P} (H : ∀ c l0 m0 b0 wc wl wa a1 a2 a3 a4 a5 a6 a7 a8 a9 c' l0' m0' b0' wc' wl' wa' d1 d2 d3 d4 d5 d6 d7 d8 d9, bk_S l m b lg P (c, l0, m0, b0, wc, wl, wa, a1, a2, a3, a4, a5, a6, a7, a8, a9) → bk_S l' m' b' lg' P (c', l0', m0', b0', wc', wl', wa', d1, d2, d3, d4, d5, d6, d7, d8, d9) → post 1 (c, l0, m0, b0, wc, wl, wa, a1, a2, a3, a4, a5, a6, a7, a8, a9, c', l0', m0', b0', wc', wl', wa', d1, d2, d3, d4, d5, d6, d7, d8, d9)) :
    ∀ j a n c l0 m0 b0 wc wl wa a1 a2 a3 a4 a5 a6 a7 a8 a9 c' l0' m0' b0' wc' wl' wa' d1 d2 d3 d4 d5 d6 d7 d8 d9, a + j = 4 → j < n → bk_S l m b lg P (c, l0, m0, b0, wc, wl, wa, a1, a2, a3, a4, a5, a6, a7, a8, a9) → bk_S l' m' b' lg' P (c', l0', m0', b0', wc', wl', wa', d1, d2, d3, d4, d5, d6, d7, d8, d9) → wL_undone_2 post n (nI a) c l0 m0 b0 wc wl wa a1 a2 a3 a4 a5 a6 a7 a8 a9 c' l0' m0' b0' wc' wl' wa' d1 d2 d3 d4 d5 d6 d7 d8 d9 := by
  intro j
  induction j with
  | zero =>
    intro a n c l0 m0 b0 wc wl wa a1 a2 a3 a4 a5 a6 a7 a8 a9 c' l0' m0' b0' wc' wl' wa' d1 d2 d3 d4 d5 d6 d7 d8 d9 ha hn hS hS'
    obtain ⟨n, rfl⟩ : ∃ k, n = k + 1 := ⟨n - 1, by omega⟩
    exact pk_le 4 a (fun _ => bk_entries hS (bk_entries hS' (br_t rfl (H _ _ _ _ _ _ _ _ _ _ _ _ _ _ _ _ _ _ _ _ _ _ _ _ _ _ _ _ _ _ _ _ hS hS')))) (fun z => absurd z (by omega))
  | succ j ih =>
    intro a n c l0 m0 b0 wc wl wa a1 a2 a3 a4 a5 a6 a7 a8 a9 c' l0' m0' b0' wc' wl' wa' d1 d2 d3 d4 d5 d6 d7 d8 d9 ha hn hS hS'
    obtain ⟨n, rfl⟩ : ∃ k, n = k + 1 := ⟨n - 1, by omega⟩
    refine pk_le 4 a (fun z => absurd z (by omega)) (fun _ => ⟨49, ?_⟩)
    refine bk_undone_9 (by omega) ?_ 48 0 49 c l0 m0 b0 wc wl wa a1 a2 a3 a4 a5 a6 a7 a8 a9 c' l0' m0' b0' wc' wl' wa' d1 d2 d3 d4 d5 d6 d7 d8 d9 (by omega) (by omega) hS hS'
    clear hS hS'
    clear c l0 m0 b0 wc wl wa a1 a2 a3 a4 a5 a6 a7 a8 a9 c' l0' m0' b0' wc' wl' wa' d1 d2 d3 d4 d5 d6 d7 d8 d9
    intro c l0 m0 b0 wc wl wa a1 a2 a3 a4 a5 a6 a7 a8 a9 c' l0' m0' b0' wc' wl' wa' d1 d2 d3 d4 d5 d6 d7 d8 d9 hS hS'
    exact ih (a + 1) n c l0 m0 b0 wc wl wa a1 a2 a3 a4 a5 a6 a7 a8 a9 c' l0' m0' b0' wc' wl' wa' d1 d2 d3 d4 d5 d6 d7 d8 d9 (by omega) (by omega) hS hS'
theorem bk_undone {post : Int32 → St3 → Prop} {l m b l' m' b' : Int32} {lg lg' : Nat → Int32} {P : bk_P} {c l0 m0 b0 wc wl wa : Int32} {a1 a2 a3 a4 a5 a6 a7 a8 a9 : Nat → Int32} {c' l0' m0' b0' wc' wl' wa' : Int32} {d1 d2 d3 d4 d5 d6 d7 d8 d9 : Nat → Int32} (hS : bk_S l m b lg P (c, l0, m0, b0, wc, wl, wa, a1, a2, a3, a4, a5, a6, a7, a8, a9)) (hS' : bk_S l' m' b' lg' P (c', l0', m0', b0', wc', wl', wa', d1, d2, d3, d4, d5, d6, d7, d8, d9)) (H : ∀ c l0 m0 b0 wc wl wa a1 a2 a3 a4 a5 a6 a7 a8 a9 c' l0' m0' b0' wc' wl' wa' d1 d2 d3 d4 d5 d6 d7 d8 d9, bk_S l m b lg P (c, l0, m0, b0, wc, wl, wa, a1, a2, a3, a4, a5, a6, a7, a8, a9) → bk_S l' m' b' lg' P (c', l0', m0', b0', wc', wl', wa', d1, d2, d3, d4, d5, d6, d7, d8, d9) → post 1 (c, l0, m0, b0, wc, wl, wa, a1, a2, a3, a4, a5, a6, a7, a8, a9, c', l0', m0', b0', wc', wl', wa', d1, d2, d3, d4, d5, d6, d7, d8, d9)) : wpL_undone post (c, l0, m0, b0, wc, wl, wa, a1, a2, a3, a4, a5, a6, a7, a8, a9, c', l0', m0', b0', wc', wl', wa', d1, d2, d3, d4, d5, d6, d7, d8, d9) :=
  ⟨5, bk_undone_2 H 4 0 5 c l0 m0 b0 wc wl wa a1 a2 a3 a4 a5 a6 a7 a8 a9 c' l0' m0' b0' wc' wl' wa' d1 d2 d3 d4 d5 d6 d7 d8 d9 (by omega) (by omega) hS hS'⟩
end
section
/-! ===== what a call makes of a closed book ===== -/
noncomputable def bk_if (c : Prop) (P Q : bk_P) : bk_P := @ite bk_P c (Classical.propDecidable c) P Q
theorem bk_if_t {c : Prop} {P Q : bk_P} (h : c) : bk_if c P Q = P := if_pos h
theorem bk_if_f {c : Prop} {P Q : bk_P} (h : ¬ c) : bk_if c P Q = Q := if_neg h
noncomputable def bk_sP (P : bk_P) (a d : Nat) (x : Int) : bk_P := bk_if (bk_n P = 60 ∨ ¬ bk_be P a d x) P (bk_en P a d x)
noncomputable def bk_sT (P : bk_P) (r d : Nat) (y : Int) : bk_P := bk_if (r / 4 = r % 4 ∨ 58 < bk_n P ∨ ¬ bk_be P (r / 4) d (-y)) P (bk_en (bk_en P (r / 4) d (-y)) (r % 4) d y)
noncomputable def bk_sC (P : bk_P) (e : Nat) : bk_P := bk_if (bk_n P ≤ e ∨ bk_G P e = true ∨ ¬ bk_be P (bk_A P e) (bk_D P e) (-bk_M P e)) P (bk_cn P e)
noncomputable def bk_sF (P : bk_P) (a : Nat) (f : Int) : bk_P := bk_if (¬ f ≤ bk_lo (bk_L P a) 0 48) P (bk_fl P a f)
theorem bk_dn {c : Prop} (h : ¬ ¬ c) : c := Classical.byContradiction h
theorem bk_nt {x : Bool} (h : ¬ x = true) : x = false := by
  cases x with
  | false => rfl
  | true => exact absurd rfl h
theorem bk_ok_sP {P : bk_P} (h : bk_ok P) (a d : Nat) (x : Int) : bk_ok (bk_sP P a d x) := by
  unfold bk_sP
  by_cases c : bk_n P = 60 ∨ ¬ bk_be P a d x
  · rw [bk_if_t c]; exact h
  · rw [bk_if_f c]
    exact bk_ok_en h (bk_dn (fun z => c (Or.inr z)))
theorem bk_ok_sT {P : bk_P} (h : bk_ok P) (r d : Nat) (y : Int) (hy : 0 < y) : bk_ok (bk_sT P r d y) := by
  unfold bk_sT
  by_cases c : r / 4 = r % 4 ∨ 58 < bk_n P ∨ ¬ bk_be P (r / 4) d (-y)
  · rw [bk_if_t c]; exact h
  · rw [bk_if_f c]
    exact bk_ok_en (bk_ok_en h (bk_dn (fun z => c (Or.inr (Or.inr z))))) (Or.inl hy)
theorem bk_ok_sC {P : bk_P} (h : bk_ok P) (e : Nat) : bk_ok (bk_sC P e) := by
  unfold bk_sC
  by_cases c : bk_n P ≤ e ∨ bk_G P e = true ∨ ¬ bk_be P (bk_A P e) (bk_D P e) (-bk_M P e)
  · rw [bk_if_t c]; exact h
  · rw [bk_if_f c]
    have c1 : e < bk_n P := Nat.lt_of_not_le (fun z => c (Or.inl z))
    exact bk_ok_cn h c1 (bk_nt (fun z => c (Or.inr (Or.inl z)))) (bk_dn (fun z => c (Or.inr (Or.inr z))))
theorem bk_ok_sF {P : bk_P} (h : bk_ok P) (a : Nat) (f : Int) (hf : f ≤ 10000) : bk_ok (bk_sF P a f) := by
  unfold bk_sF
  by_cases c : ¬ f ≤ bk_lo (bk_L P a) 0 48
  · rw [bk_if_t c]; exact h
  · rw [bk_if_f c]
    exact bk_ok_fl h hf (bk_dn c)
theorem bk_post0 {post : Int32 → St1 → Prop} {l m : Int32} {lg : Nat → Int32} {P : bk_P} {u : St1} {a d : Nat} {x : Int} {p2 : Int32} (hS : bk_S l m 0 lg P u) (e2 : p2 = bk_I x) (ha : a < 4) (hd : d < 48) (x0 : x ≠ 0) (x1 : -10000 ≤ x) (x2 : x ≤ 10000)
    (H : ∀ k u', bk_S l m 0 lg (bk_sP P a d x) u' → post k u') : wpX_post post u (nI a) (nI d) p2 := by
  unfold bk_sP at H
  refine bk_post hS e2 ha hd x0 x1 x2 (fun n60 u' h => ?_) (fun n60 _ hb u' h => ?_) (fun n60 hb u' h => ?_)
  · rw [bk_if_t (Or.inl n60)] at H
    exact H _ _ h
  · rw [bk_if_t (Or.inr hb)] at H
    exact H _ _ h
  · rw [bk_if_f (fun z => z.elim (fun y => absurd y (by omega)) (fun y => y (hb rfl)))] at H
    exact H _ _ h
theorem bk_payment {post : Int32 → St1 → Prop} {l m : Int32} {lg : Nat → Int32} {P : bk_P} {u : St1} {a d : Nat} {x : Int} {p3 : Int32} (hS : bk_S l m 0 lg P u) (e3 : p3 = bk_I x) (ha : a < 4) (hd : d < 48) (x1 : 1 ≤ x) (x2 : x ≤ 10000)
    (H : ∀ u', bk_S l m 0 lg (bk_sP P a d (-x)) u' → post 1 u') : wpL_payment post u (nI a) (nI d) p3 := by
  subst e3
  obtain ⟨c, l0, m0, b0, wc, wl, wa, a1, a2, a3, a4, a5, a6, a7, a8, a9⟩ := u
  unfold wpL_payment
  refine bk_free hS ha hd ?_
  intro u' hS'
  obtain ⟨c', l0', m0', b0', wc', wl', wa', d1, d2, d3, d4, d5, d6, d7, d8, d9⟩ := u'
  have hW : bk_W P := by
    obtain ⟨_, _, _, _, _, hW, _, _⟩ := hS'
    exact hW
  have b1 := bk_low_bd hW a hd
  have b2 := hW.2.2 a ha
  have hm : (bk_I x ≤ bk_I (max 0 (bk_low (bk_L P a) d - bk_F P a))) ↔ x ≤ max 0 (bk_low (bk_L P a) d - bk_F P a) := bk_I_le (by omega) (by omega) (by omega) (by omega)
  refine bk_entries hS' ?_
  unfold bk_sP at H
  refine bk_post hS' (bk_I_neg x) ha hd (by omega) (by omega) (by omega) (fun n60 u'' hS'' => ?_) (fun n60 _ hb u'' hS'' => ?_) (fun n60 hb u'' hS'' => ?_)
  · rw [bk_if_t (Or.inl n60)] at H
    obtain ⟨c'', l0'', m0'', b0'', wc'', wl'', wa'', g1, g2, g3, g4, g5, g6, g7, g8, g9⟩ := u''
    exact pk_le 60 (bk_n P) (fun _ => pk_eq (bk_n P) 60 (fun _ => br_t rfl (H _ hS'')) (fun z => absurd n60 z)) (fun z => absurd z (by omega))
  · rw [bk_if_t (Or.inr hb)] at H
    obtain ⟨c'', l0'', m0'', b0'', wc'', wl'', wa'', g1, g2, g3, g4, g5, g6, g7, g8, g9⟩ := u''
    have hx : ¬ bk_F P a ≤ bk_low (bk_L P a) d + -x := fun z => hb (Or.inr z)
    exact pk_le 60 (bk_n P) (fun z => absurd z (by omega)) (fun _ => br_t rfl (ek_if hm (fun z => absurd z (by omega)) (fun _ => br_t rfl (pk_eq (bk_n P) 60 (fun z => absurd z (by omega)) (fun _ => br_t rfl (H _ hS''))))))
  · rw [bk_if_f (fun z => z.elim (fun y => absurd y (by omega)) (fun y => y (hb rfl)))] at H
    obtain ⟨c'', l0'', m0'', b0'', wc'', wl'', wa'', g1, g2, g3, g4, g5, g6, g7, g8, g9⟩ := u''
    have hx : bk_F P a ≤ bk_low (bk_L P a) d + -x := (hb rfl).elim (fun z => absurd z (by omega)) id
    have hne : ¬ nI (bk_n P) = (-5) := by
      intro z
      rw [bk_I_n] at z
      have := (bk_I_eq (y := -5) (by omega) (by omega) (by omega) (by omega)).mp z
      omega
    exact pk_le 60 (bk_n P) (fun z => absurd z (by omega)) (fun _ => br_f hne (ek_if hm (fun _ => br_t rfl (pk_eq (bk_n P) 60 (fun z => absurd z (by omega)) (fun _ => br_f hne (br_t rfl (H _ hS''))))) (fun z => absurd (show x ≤ max 0 (bk_low (bk_L P a) d - bk_F P a) by omega) z)))
/-! ===== turn ===== -/
def bk_k (w : Int32) : Nat := w.toBitVec.toNat % 2 ^ 10
def bk_j (w : Int32) : Nat := w.toBitVec.toNat % 2 ^ 8
def bk_e (w : Int32) : Nat := w.toBitVec.toNat % 2 ^ 6
def bk_t (w : Int32) : Nat := (w >>> ((10 : Int32) &&& 31)).toBitVec.toNat % 2 ^ 2
def bk_am (w : Int32) : Int := if bk_k w = 400 then 1 else (bk_k w : Int) - 400
theorem bk_k_lt (w : Int32) : bk_k w < 1024 := Nat.mod_lt _ (by decide)
theorem bk_j_lt (w : Int32) : bk_j w < 256 := Nat.mod_lt _ (by decide)
theorem bk_e_lt (w : Int32) : bk_e w < 64 := Nat.mod_lt _ (by decide)
theorem bk_t_lt (w : Int32) : bk_t w < 4 := Nat.mod_lt _ (by decide)
theorem bk_am_in (w : Int32) : bk_am w ≠ 0 ∧ -10000 ≤ bk_am w ∧ bk_am w ≤ 10000 := by
  have h := bk_k_lt w
  unfold bk_am
  by_cases c : bk_k w = 400
  · rw [if_pos c]; omega
  · rw [if_neg c]; omega
theorem bk_k_and (w : Int32) : w &&& 1023 = bk_I (bk_k w : Int) := by
  rw [← bk_I_n]
  exact pk_and w 10 (by decide)
theorem bk_amount {post : Int32 → Prop} (w : Int32) (H : post (bk_I (bk_am w))) : wpL_amount post () w := by
  have h := bk_k_lt w
  have e1 : (w &&& 1023) - 400 = bk_I ((bk_k w : Int) - 400) := by
    rw [bk_k_and]
    exact bk_I_sub _ 400
  have e2 : (bk_I ((bk_k w : Int) - 400) = 0) ↔ (bk_k w : Int) - 400 = 0 := bk_I_eq (y := 0) (by omega) (by omega) (by omega) (by omega)
  unfold bk_am at H
  refine nm_r e1 (ek_if e2 (fun z => ?_) (fun z => ?_))
  · rw [if_pos (by omega)] at H
    exact H
  · rw [if_neg (by omega)] at H
    exact H
theorem bk_turn {post : St1 → Prop} {u : St1} {o a q : Nat} {w : Int32} (ho : o < 9) (ha : a < 4) (hc : q < 64)
    (HP : o < 6 → ∀ psi : Int32 → St1 → Prop, (∀ k u', post u' → psi k u') → wpX_post psi u (nI a) (nI (q % 48)) (bk_I (bk_am w)))
    (HT : o = 6 → ∀ (psi : Int32 → St1 → Prop) (p0 p2 : Int32), p0 = nI (4 * a + bk_t w) → p2 = bk_I (1 + (bk_j w : Int)) → (∀ k u', post u' → psi k u') → wpX_transfer psi u p0 (nI (q % 48)) p2)
    (HC : o = 7 → ∀ (psi : Int32 → St1 → Prop) (p0 : Int32), p0 = nI (bk_e w) → (∀ k u', post u' → psi k u') → wpX_cancel psi u p0)
    (HF : o = 8 → ∀ (psi : Int32 → St1 → Prop) (p1 : Int32), p1 = bk_I ((bk_k w : Int) - 500) → (∀ k u', post u' → psi k u') → wpX_floor psi u (nI a) p1) : wpL_turn post u (nI o) (nI a) (nI q) w := by
  have et : (4 * nI a) + ((w >>> ((10 : Int32) &&& 31)) &&& 3) = nI (4 * a + bk_t w) := by
    rw [show (4 : Int32) * nI a = nI (4 * a) from pk_mul 4 a, show (w >>> ((10 : Int32) &&& 31)) &&& 3 = nI (bk_t w) from pk_and _ 2 (by decide), nI_add]
  have ej : 1 + (w &&& 255) = bk_I (1 + (bk_j w : Int)) := by
    rw [show w &&& 255 = nI (bk_j w) from pk_and _ 8 (by decide), bk_I_n]
    exact bk_I_add 1 _
  have ee : w &&& 63 = nI (bk_e w) := pk_and _ 6 (by decide)
  have ek : (w &&& 1023) - 500 = bk_I ((bk_k w : Int) - 500) := by
    rw [bk_k_and]
    exact bk_I_sub _ 500
  obtain ⟨c, l0, m0, b0, wc, wl, wa, a1, a2, a3, a4, a5, a6, a7, a8, a9⟩ := u
  unfold wpL_turn
  refine ⟨by decide, nm_r (pk_rem (a := q) (d := 48) (by omega) (by omega) (by omega)) (bk_amount w ?_)⟩
  refine pk_le 6 o (fun z => pk_eq o 6 (fun y => HT y _ _ _ et ej ?_) (fun y => pk_eq o 7 (fun x => HC x _ _ ee ?_) (fun x => HF (by omega) _ _ ek ?_))) (fun z => HP z _ ?_)
  · intro k u' h
    obtain ⟨c', l0', m0', b0', wc', wl', wa', d1, d2, d3, d4, d5, d6, d7, d8, d9⟩ := u'
    exact h
  · intro k u' h
    obtain ⟨c', l0', m0', b0', wc', wl', wa', d1, d2, d3, d4, d5, d6, d7, d8, d9⟩ := u'
    exact h
  · intro k u' h
    obtain ⟨c', l0', m0', b0', wc', wl', wa', d1, d2, d3, d4, d5, d6, d7, d8, d9⟩ := u'
    exact h
  · intro k u' h
    obtain ⟨c', l0', m0', b0', wc', wl', wa', d1, d2, d3, d4, d5, d6, d7, d8, d9⟩ := u'
    exact h
noncomputable def bk_sU (P : bk_P) (o a c : Nat) (w : Int32) : bk_P :=
  if o < 6 then bk_sP P a (c % 48) (bk_am w) else if o = 6 then bk_sT P (4 * a + bk_t w) (c % 48) (1 + (bk_j w : Int)) else if o = 7 then bk_sC P (bk_e w) else bk_sF P a ((bk_k w : Int) - 500)
theorem bk_ok_sU {P : bk_P} (h : bk_ok P) (o a c : Nat) (w : Int32) : bk_ok (bk_sU P o a c w) := by
  have hk := bk_k_lt w
  unfold bk_sU
  by_cases c1 : o < 6
  · rw [if_pos c1]; exact bk_ok_sP h _ _ _
  · rw [if_neg c1]
    by_cases c2 : o = 6
    · rw [if_pos c2]; exact bk_ok_sT h _ _ _ (by omega)
    · rw [if_neg c2]
      by_cases c3 : o = 7
      · rw [if_pos c3]; exact bk_ok_sC h _
      · rw [if_neg c3]; exact bk_ok_sF h _ _ (by omega)
theorem bk_turn0 {post : St1 → Prop} {l m : Int32} {lg : Nat → Int32} {P : bk_P} {u : St1} {o a c : Nat} {w : Int32} (hS : bk_S l m 0 lg P u) (ho : o < 9) (ha : a < 4) (hc : c < 64)
    (H : ∀ u', bk_S l m 0 lg (bk_sU P o a c w) u' → post u') : wpL_turn post u (nI o) (nI a) (nI c) w := by
  have hk := bk_k_lt w
  have hj := bk_j_lt w
  have he := bk_e_lt w
  have ht := bk_t_lt w
  obtain ⟨m0, m1, m2⟩ := bk_am_in w
  unfold bk_sU at H
  refine bk_turn ho ha hc (fun z psi hp => ?_) (fun z psi p0 p2 e0 e2 hp => ?_) (fun z psi p0 e0 hp => ?_) (fun z psi p1 e1 hp => ?_)
  · rw [if_pos z] at H
    exact bk_post0 hS rfl ha (by omega) m0 m1 m2 (fun k u' h => hp k u' (H u' h))
  · rw [if_neg (by omega), if_pos z] at H
    unfold bk_sT at H
    refine bk_transfer hS e0 e2 (by omega) (by omega) (by omega) (by omega) (fun y k u' h => ?_) (fun y1 y2 y3 k u' h => ?_)
    · rw [bk_if_t (y.elim Or.inl (fun y => y.elim (fun y => Or.inr (Or.inl y)) (fun y => Or.inr (Or.inr y.2))))] at H
      exact hp k u' (H u' h)
    · rw [bk_if_f (fun y => y.elim y1 (fun y => y.elim (fun y => absurd y (by omega)) (fun y => y (y3 rfl))))] at H
      exact hp k u' (H u' h)
  · rw [if_neg (by omega), if_neg (by omega), if_pos z] at H
    unfold bk_sC at H
    refine bk_cancel hS e0 he (fun y k u' h => ?_) (fun y1 y2 _ y3 k u' h => ?_) (fun _ _ y => absurd rfl y)
    · rw [bk_if_t (y.elim Or.inl (fun y => y.elim (fun y => Or.inr (Or.inl y)) (fun y => Or.inr (Or.inr y.2))))] at H
      exact hp k u' (H u' h)
    · rw [bk_if_f (fun y => y.elim (fun y => absurd y (by omega)) (fun y => y.elim (fun y => by rw [y2] at y; exact absurd y (by decide)) (fun y => y y3)))] at H
      exact hp k u' (H u' h)
  · rw [if_neg (by omega), if_neg (by omega), if_neg (by omega)] at H
    unfold bk_sF at H
    refine bk_floor hS e1 ha (by omega) (by omega) (fun y k u' h => ?_) (fun _ y k u' h => ?_)
    · rw [bk_if_t (y.elim (fun y => absurd rfl y) id)] at H
      exact hp k u' (H u' h)
    · rw [bk_if_f (fun z => z y)] at H
      exact hp k u' (H u' h)
theorem bk_turn1 {post : St1 → Prop} {P Q : bk_P} {p : Nat} {lg : Nat → Int32} {u : St1} {o a c : Nat} {w : Int32} (hS : bk_S (nI p) (nI (bk_n P)) 1 lg Q u) (hR : bk_R P p lg Q) (ho : o < 9) (ha : a < 4) (hc : c < 64)
    (H : ∀ p' lg' Q' u', bk_S (nI p') (nI (bk_n P)) 1 lg' Q' u' → bk_R P p' lg' Q' → post u') : wpL_turn post u (nI o) (nI a) (nI c) w := by
  have hk := bk_k_lt w
  have hj := bk_j_lt w
  have he := bk_e_lt w
  have ht := bk_t_lt w
  obtain ⟨m0, m1, m2⟩ := bk_am_in w
  have hW : bk_W Q := by
    obtain ⟨c, l0, m0, b0, wc, wl, wa, a1, a2, a3, a4, a5, a6, a7, a8, a9⟩ := u
    obtain ⟨_, _, _, _, _, hW, _, _⟩ := hS
    exact hW
  have h10 : ¬ (1 : Int32) = 0 := by decide
  refine bk_turn ho ha hc (fun z psi hp => ?_) (fun z psi p0 p2 e0 e2 hp => ?_) (fun z psi p0 e0 hp => ?_) (fun z psi p1 e1 hp => ?_)
  · exact bk_post hS rfl ha (by omega) m0 m1 m2 (fun _ u' h => hp _ u' (H _ _ _ u' h hR)) (fun _ y => absurd y h10) (fun _ _ u' h => hp _ u' (H _ _ _ u' h (bk_R_en hR)))
  · exact bk_transfer hS e0 e2 (by omega) (by omega) (by omega) (by omega) (fun _ k u' h => hp k u' (H _ _ _ u' h hR)) (fun _ _ _ k u' h => hp k u' (H _ _ _ u' h (bk_R_en (bk_R_en hR))))
  · exact bk_cancel hS e0 he (fun _ k u' h => hp k u' (H _ _ _ u' h hR)) (fun _ _ y => absurd y h10) (fun y1 y2 _ => ⟨p, rfl, bk_R_room hR hW y1 y2, fun k u' h => hp k u' (H _ _ _ u' h (bk_R_cn hR y1 y2))⟩)
  · exact bk_floor hS e1 ha (by omega) (by omega) (fun _ k u' h => hp k u' (H _ _ _ u' h hR)) (fun y => absurd y h10)
end
section
/-! ===== the law's loop ===== -/
/-- there is a sound picture P: n holds it while alike; m holds it, or has a batch under way over it -/
def bk_V (x3 : Int32) (u v : St1) : Prop := ∃ P : bk_P, bk_ok P ∧ (x3 ≠ 0 → ∃ l m lg, bk_S l m 0 lg P v) ∧ ((∃ l m lg, bk_S l m 0 lg P u) ∨ (∃ p lg Q, bk_S (nI p) (nI (bk_n P)) 1 lg Q u ∧ bk_R P p lg Q))
theorem bk_237 {post : Int32 → Prop} {L : Nat} {xs : Nat → Int32} {J : Int32 → Int32 → Int32 → Int32 → Int32 → Int32 → Int32 → Int32 → Int32 → (Nat → Int32) → (Nat → Int32) → (Nat → Int32) → (Nat → Int32) → (Nat → Int32) → (Nat → Int32) → (Nat → Int32) → (Nat → Int32) → (Nat → Int32) → Int32 → Int32 → Int32 → Int32 → Int32 → Int32 → Int32 → (Nat → Int32) → (Nat → Int32) → (Nat → Int32) → (Nat → Int32) → (Nat → Int32) → (Nat → Int32) → (Nat → Int32) → (Nat → Int32) → (Nat → Int32) → Prop} {x3 : Int32} {k kc ks : Nat} {c l0 m0 b0 wc wl wa : Int32} {a1 a2 a3 a4 a5 a6 a7 a8 a9 : Nat → Int32} {c' l0' m0' b0' wc' wl' wa' : Int32} {d1 d2 d3 d4 d5 d6 d7 d8 d9 : Nat → Int32}
    (HJ : ∀ x3 c l0 m0 b0 wc wl wa a1 a2 a3 a4 a5 a6 a7 a8 a9 c' l0' m0' b0' wc' wl' wa' d1 d2 d3 d4 d5 d6 d7 d8 d9, bk_V x3 (c, l0, m0, b0, wc, wl, wa, a1, a2, a3, a4, a5, a6, a7, a8, a9) (c', l0', m0', b0', wc', wl', wa', d1, d2, d3, d4, d5, d6, d7, d8, d9) → J x3 (nI (k + 2)) c l0 m0 b0 wc wl wa a1 a2 a3 a4 a5 a6 a7 a8 a9 c' l0' m0' b0' wc' wl' wa' d1 d2 d3 d4 d5 d6 d7 d8 d9) (hV : bk_V x3 (c, l0, m0, b0, wc, wl, wa, a1, a2, a3, a4, a5, a6, a7, a8, a9) (c', l0', m0', b0', wc', wl', wa', d1, d2, d3, d4, d5, d6, d7, d8, d9)) : wL_law_237 post L xs J x3 (nI k) kc ks c l0 m0 b0 wc wl wa a1 a2 a3 a4 a5 a6 a7 a8 a9 c' l0' m0' b0' wc' wl' wa' d1 d2 d3 d4 d5 d6 d7 d8 d9 := by
  unfold wL_law_237
  obtain ⟨P, ho, hv, ⟨l, m, lg, hS⟩ | ⟨p, lg, Q, hS, hR⟩⟩ := hV
  · refine bk_isOpen hS (fun _ => br_t rfl (bk_sound hS ho ?_)) (fun z => absurd rfl z)
    clear hS
    clear c l0 m0 b0 wc wl wa a1 a2 a3 a4 a5 a6 a7 a8 a9
    intro u hS
    obtain ⟨c, l0, m0, b0, wc, wl, wa, a1, a2, a3, a4, a5, a6, a7, a8, a9⟩ := u
    exact br_t rfl (nm_r (nI_add k 2) (HJ x3 c l0 m0 b0 wc wl wa a1 a2 a3 a4 a5 a6 a7 a8 a9 c' l0' m0' b0' wc' wl' wa' d1 d2 d3 d4 d5 d6 d7 d8 d9 ⟨P, ho, hv, Or.inl ⟨l, m, lg, hS⟩⟩))
  · exact bk_isOpen hS (fun z => absurd z (by decide)) (fun _ => br_f (by decide) (nm_r (nI_add k 2) (HJ x3 c l0 m0 b0 wc wl wa a1 a2 a3 a4 a5 a6 a7 a8 a9 c' l0' m0' b0' wc' wl' wa' d1 d2 d3 d4 d5 d6 d7 d8 d9 ⟨P, ho, hv, Or.inr ⟨p, lg, Q, hS, hR⟩⟩)))
theorem bk_181 {post : Int32 → Prop} {L : Nat} {xs : Nat → Int32} {J : Int32 → Int32 → Int32 → Int32 → Int32 → Int32 → Int32 → Int32 → Int32 → (Nat → Int32) → (Nat → Int32) → (Nat → Int32) → (Nat → Int32) → (Nat → Int32) → (Nat → Int32) → (Nat → Int32) → (Nat → Int32) → (Nat → Int32) → Int32 → Int32 → Int32 → Int32 → Int32 → Int32 → Int32 → (Nat → Int32) → (Nat → Int32) → (Nat → Int32) → (Nat → Int32) → (Nat → Int32) → (Nat → Int32) → (Nat → Int32) → (Nat → Int32) → (Nat → Int32) → Prop} {x3 : Int32} {k kc ks o : Nat} {c l0 m0 b0 wc wl wa : Int32} {a1 a2 a3 a4 a5 a6 a7 a8 a9 : Nat → Int32} {c' l0' m0' b0' wc' wl' wa' : Int32} {d1 d2 d3 d4 d5 d6 d7 d8 d9 : Nat → Int32}
    (HJ : ∀ x3 c l0 m0 b0 wc wl wa a1 a2 a3 a4 a5 a6 a7 a8 a9 c' l0' m0' b0' wc' wl' wa' d1 d2 d3 d4 d5 d6 d7 d8 d9, bk_V x3 (c, l0, m0, b0, wc, wl, wa, a1, a2, a3, a4, a5, a6, a7, a8, a9) (c', l0', m0', b0', wc', wl', wa', d1, d2, d3, d4, d5, d6, d7, d8, d9) → J x3 (nI (k + 2)) c l0 m0 b0 wc wl wa a1 a2 a3 a4 a5 a6 a7 a8 a9 c' l0' m0' b0' wc' wl' wa' d1 d2 d3 d4 d5 d6 d7 d8 d9) (ho16 : o < 16) (hV : bk_V x3 (c, l0, m0, b0, wc, wl, wa, a1, a2, a3, a4, a5, a6, a7, a8, a9) (c', l0', m0', b0', wc', wl', wa', d1, d2, d3, d4, d5, d6, d7, d8, d9)) : wL_law_181 post L xs J x3 (nI k) (nI o) kc ks c l0 m0 b0 wc wl wa a1 a2 a3 a4 a5 a6 a7 a8 a9 c' l0' m0' b0' wc' wl' wa' d1 d2 d3 d4 d5 d6 d7 d8 d9 := by
  unfold wL_law_181
  have hV2 := hV
  obtain ⟨P, ho, hv, ⟨l, m, lg, hS⟩ | ⟨p, lg, Q, hS, hR⟩⟩ := hV
  · refine pk_le 14 o (fun _ => bk_isOpen hS (fun _ => br_f (by decide) (bk_237 HJ hV2)) (fun z => absurd rfl z)) (fun _ => bk_open hS (fun _ r u' hS' => ?_) (fun z => absurd rfl z))
    clear hS hV2
    clear c l0 m0 b0 wc wl wa a1 a2 a3 a4 a5 a6 a7 a8 a9
    obtain ⟨c, l0, m0, b0, wc, wl, wa, a1, a2, a3, a4, a5, a6, a7, a8, a9⟩ := u'
    exact bk_237 HJ ⟨P, ho, hv, Or.inr ⟨0, lg, P, hS', bk_R_0 P lg⟩⟩
  · have h10 : ¬ (1 : Int32) = 0 := by decide
    refine pk_le 14 o (fun _ => bk_isOpen hS (fun z => absurd z h10) (fun _ => br_t rfl (bk_close hS hR (fun hq u' hS' => ?_) (fun u' hS' => ?_)))) (fun _ => bk_open hS (fun z => absurd z h10) (fun _ r u' hS' => ?_))
    · clear hS hV2
      clear c l0 m0 b0 wc wl wa a1 a2 a3 a4 a5 a6 a7 a8 a9
      obtain ⟨c, l0, m0, b0, wc, wl, wa, a1, a2, a3, a4, a5, a6, a7, a8, a9⟩ := u'
      exact br_f h10 (br_t rfl (bk_237 HJ ⟨Q, hq, fun z => absurd rfl z, Or.inl ⟨_, _, _, hS'⟩⟩))
    · clear hS hV2
      clear c l0 m0 b0 wc wl wa a1 a2 a3 a4 a5 a6 a7 a8 a9
      obtain ⟨c, l0, m0, b0, wc, wl, wa, a1, a2, a3, a4, a5, a6, a7, a8, a9⟩ := u'
      refine br_t rfl (br_c (fun z => br_f (by decide) (bk_237 HJ ⟨P, ho, hv, Or.inl ⟨_, _, _, hS'⟩⟩)) (fun z => ?_))
      obtain ⟨l, m, lg2, hT⟩ := hv z
      refine bk_undone hS' hT ?_
      clear hS' hT hv
      clear c l0 m0 b0 wc wl wa a1 a2 a3 a4 a5 a6 a7 a8 a9 c' l0' m0' b0' wc' wl' wa' d1 d2 d3 d4 d5 d6 d7 d8 d9
      intro c l0 m0 b0 wc wl wa a1 a2 a3 a4 a5 a6 a7 a8 a9 c' l0' m0' b0' wc' wl' wa' d1 d2 d3 d4 d5 d6 d7 d8 d9 hS' hT
      exact br_f h10 (br_f (by decide) (bk_237 HJ ⟨P, ho, fun _ => ⟨l, m, lg2, hT⟩, Or.inl ⟨_, _, _, hS'⟩⟩))
    · clear hS hV2
      clear c l0 m0 b0 wc wl wa a1 a2 a3 a4 a5 a6 a7 a8 a9
      obtain ⟨c, l0, m0, b0, wc, wl, wa, a1, a2, a3, a4, a5, a6, a7, a8, a9⟩ := u'
      exact bk_237 HJ ⟨P, ho, hv, Or.inr ⟨p, lg, Q, hS', hR⟩⟩
theorem bk_cell {post : Int32 → Prop} {L : Nat} {xs : Nat → Int32} {k : Nat} {p1 : Int32} (hL : L ≤ 260) (hk : k < 1000) (e : p1 = nI k) (H : ∀ c, post c) : wpL_cell post L xs () p1 := by
  subst e
  exact pk_le L k (fun _ => H _) (fun z => ⟨pk_in k L z, H _⟩)
theorem bk_21 {L : Nat} {xs : Nat → Int32} (hL : L ≤ 260) {kc ks : Nat} : ∀ n k x3 c l0 m0 b0 wc wl wa a1 a2 a3 a4 a5 a6 a7 a8 a9 c' l0' m0' b0' wc' wl' wa' d1 d2 d3 d4 d5 d6 d7 d8 d9, k ≤ L + 1 → L + 1 < k + n → bk_V x3 (c, l0, m0, b0, wc, wl, wa, a1, a2, a3, a4, a5, a6, a7, a8, a9) (c', l0', m0', b0', wc', wl', wa', d1, d2, d3, d4, d5, d6, d7, d8, d9) → wL_law_21 (fun r => r = 1) L xs kc ks n x3 (nI k) c l0 m0 b0 wc wl wa a1 a2 a3 a4 a5 a6 a7 a8 a9 c' l0' m0' b0' wc' wl' wa' d1 d2 d3 d4 d5 d6 d7 d8 d9 := by
  intro n
  induction n with
  | zero => intro k x3 c l0 m0 b0 wc wl wa a1 a2 a3 a4 a5 a6 a7 a8 a9 c' l0' m0' b0' wc' wl' wa' d1 d2 d3 d4 d5 d6 d7 d8 d9 h1 h2; exact absurd h2 (by omega)
  | succ n ih =>
    intro k x3 c l0 m0 b0 wc wl wa a1 a2 a3 a4 a5 a6 a7 a8 a9 c' l0' m0' b0' wc' wl' wa' d1 d2 d3 d4 d5 d6 d7 d8 d9 h1 h2 hV
    refine pk_le L k (fun _ => rfl) (fun z => bk_cell hL (by omega) rfl (fun w1 => bk_cell hL (by omega) (nI_1 k) (fun w2 => ?_)))
    have HJ : ∀ x3 c l0 m0 b0 wc wl wa a1 a2 a3 a4 a5 a6 a7 a8 a9 c' l0' m0' b0' wc' wl' wa' d1 d2 d3 d4 d5 d6 d7 d8 d9, bk_V x3 (c, l0, m0, b0, wc, wl, wa, a1, a2, a3, a4, a5, a6, a7, a8, a9) (c', l0', m0', b0', wc', wl', wa', d1, d2, d3, d4, d5, d6, d7, d8, d9) → wL_law_21 (fun r => r = 1) L xs kc ks n x3 (nI (k + 2)) c l0 m0 b0 wc wl wa a1 a2 a3 a4 a5 a6 a7 a8 a9 c' l0' m0' b0' wc' wl' wa' d1 d2 d3 d4 d5 d6 d7 d8 d9 := fun x3 c l0 m0 b0 wc wl wa a1 a2 a3 a4 a5 a6 a7 a8 a9 c' l0' m0' b0' wc' wl' wa' d1 d2 d3 d4 d5 d6 d7 d8 d9 h => ih (k + 2) x3 c l0 m0 b0 wc wl wa a1 a2 a3 a4 a5 a6 a7 a8 a9 c' l0' m0' b0' wc' wl' wa' d1 d2 d3 d4 d5 d6 d7 d8 d9 (by omega) (by omega) h
    generalize wL_law_21 (fun r => r = 1) L xs kc ks n = J at HJ ⊢
    clear ih
    obtain ⟨o, ho, eo⟩ := pk_andE w1 (m := 15) 4 (by decide)
    obtain ⟨a, ha, ea⟩ := pk_andE (w1 >>> ((4 : Int32) &&& 31)) (m := 3) 2 (by decide)
    obtain ⟨y, hy, ey⟩ := pk_andE (w1 >>> ((6 : Int32) &&& 31)) (m := 63) 6 (by decide)
    have er : nI y - nI y / 48 * 48 = nI (y % 48) := pk_rem (a := y) (d := 48) (by omega) (by omega) (by omega)
    have hk := bk_k_lt w2
    have e1 : 1 + (w2 &&& 1023) = bk_I (1 + (bk_k w2 : Int)) := by
      rw [bk_k_and]
      exact bk_I_add 1 _
    have e2 : (-1) - (w2 &&& 1023) = bk_I (-(1 + (bk_k w2 : Int))) := by
      rw [bk_k_and, show -(1 + (bk_k w2 : Int)) = -1 - (bk_k w2 : Int) by omega, show (-1 : Int32) = bk_I (-1) by decide, bk_I_sub]
    refine nm_r eo (nm_r ea (nm_r ey (pk_le 9 o (fun z1 => pk_le 12 o (fun z2 => bk_181 HJ (by omega) hV) (fun z2 => ?_)) (fun z1 => ?_))))
    · have hV2 := hV
      obtain ⟨P, hP, hv, ⟨l, m, lg, hS⟩ | ⟨p, lg, Q, hS, hR⟩⟩ := hV
      · refine bk_isOpen hS (fun _ => br_t rfl ⟨by decide, ?_⟩) (fun z => absurd rfl z)
        rw [er]
        refine bk_payment hS e1 (by omega) (by omega) (by omega) (by omega) (fun u' hS' => ?_)
        clear hS hV2
        clear c l0 m0 b0 wc wl wa a1 a2 a3 a4 a5 a6 a7 a8 a9
        obtain ⟨c, l0, m0, b0, wc, wl, wa, a1, a2, a3, a4, a5, a6, a7, a8, a9⟩ := u'
        refine br_f (by decide) (br_c (fun z => bk_237 HJ ⟨_, bk_ok_sP hP _ _ _, fun z2 => absurd z z2, Or.inl ⟨_, _, _, hS'⟩⟩) (fun z => ⟨by decide, ?_⟩))
        obtain ⟨l2, m2, lg2, hT⟩ := hv z
        refine bk_post0 hT e2 (by omega) (by omega) (by omega) (by omega) (by omega) (fun r u' hT' => ?_)
        clear hT hv
        clear c' l0' m0' b0' wc' wl' wa' d1 d2 d3 d4 d5 d6 d7 d8 d9
        obtain ⟨c', l0', m0', b0', wc', wl', wa', d1, d2, d3, d4, d5, d6, d7, d8, d9⟩ := u'
        exact bk_237 HJ ⟨_, bk_ok_sP hP _ _ _, fun _ => ⟨_, _, _, hT'⟩, Or.inl ⟨_, _, _, hS'⟩⟩
      · exact bk_isOpen hS (fun z => absurd z (by decide)) (fun _ => br_f (by decide) (bk_181 HJ (by omega) hV2))
    · obtain ⟨P, hP, hv, ⟨l, m, lg, hS⟩ | ⟨p, lg, Q, hS, hR⟩⟩ := hV
      · refine bk_turn0 hS z1 (by omega) (by omega) (fun u' hS' => ?_)
        clear hS
        clear c l0 m0 b0 wc wl wa a1 a2 a3 a4 a5 a6 a7 a8 a9
        obtain ⟨c, l0, m0, b0, wc, wl, wa, a1, a2, a3, a4, a5, a6, a7, a8, a9⟩ := u'
        refine bk_isOpen hS' (fun _ => br_t rfl (br_c (fun z => bk_237 HJ ⟨_, bk_ok_sU hP _ _ _ _, fun z2 => absurd z z2, Or.inl ⟨_, _, _, hS'⟩⟩) (fun z => ?_))) (fun z => absurd rfl z)
        obtain ⟨l2, m2, lg2, hT⟩ := hv z
        refine bk_turn0 hT z1 (by omega) (by omega) (fun u' hT' => ?_)
        clear hT hv
        clear c' l0' m0' b0' wc' wl' wa' d1 d2 d3 d4 d5 d6 d7 d8 d9
        obtain ⟨c', l0', m0', b0', wc', wl', wa', d1, d2, d3, d4, d5, d6, d7, d8, d9⟩ := u'
        exact bk_237 HJ ⟨_, bk_ok_sU hP _ _ _ _, fun _ => ⟨_, _, _, hT'⟩, Or.inl ⟨_, _, _, hS'⟩⟩
      · refine bk_turn1 hS hR z1 (by omega) (by omega) (fun p' lg' Q' u' hS' hR' => ?_)
        clear hS
        clear c l0 m0 b0 wc wl wa a1 a2 a3 a4 a5 a6 a7 a8 a9
        obtain ⟨c, l0, m0, b0, wc, wl, wa, a1, a2, a3, a4, a5, a6, a7, a8, a9⟩ := u'
        exact bk_isOpen hS' (fun z => absurd z (by decide)) (fun _ => br_f (by decide) (bk_237 HJ ⟨P, hP, hv, Or.inr ⟨p', lg', Q', hS', hR'⟩⟩))
end
section
/-! ===== the two new books, and what is owed ===== -/
def bk_P0 : bk_P := (0, fun _ => 0, fun _ => 0, fun _ => 0, fun _ => false, fun _ => 0)
theorem bk_ok_0 : bk_ok bk_P0 := by
  intro a ha k hk
  have : bk_sg (bk_L bk_P0 a) 0 (k + 1) = 0 := bk_sg_0 0 (k + 1)
  rw [this]
  exact Int.le_refl 0
theorem bk_S_0 : bk_S 0 0 0 (fun _ => 0) bk_P0 (0, 0, 0, 0, 0, 0, 0, (fun _ => 0), (fun _ => 0), (fun _ => 0), (fun _ => 0), (fun _ => 0), (fun _ => 0), (fun _ => 0), (fun _ => 0), (fun _ => 0)) :=
  ⟨rfl, rfl, rfl, rfl, rfl, ⟨by decide, fun e he => absurd he (Nat.not_lt_zero e), fun a _ => ⟨show (-10000 : Int) ≤ 0 by decide, show (0 : Int) ≤ 10000 by decide⟩⟩, ⟨fun e he => absurd he (Nat.not_lt_zero e), fun a _ => rfl⟩, fun a _ => ⟨fun d _ => ⟨rfl, rfl⟩, fun v _ _ => ⟨show (0 : Int32) = 0 + 0 by decide, show (0 : Int32) = if (0 : Int32) + 0 ≤ 0 then 0 + 0 else 0 by decide⟩⟩⟩
theorem bk_init {post : St1 → Prop} (H : post (0, 0, 0, 0, 0, 0, 0, (fun _ => 0), (fun _ => 0), (fun _ => 0), (fun _ => 0), (fun _ => 0), (fun _ => 0), (fun _ => 0), (fun _ => 0), (fun _ => 0))) : wpX_init post 9 1840 (0, 0, 0, 0, 0, 0, 0) :=
  ⟨by decide, by decide, by decide, by decide, by decide, by decide, by decide, by decide, by decide, by decide, by decide, by decide, by decide, by decide, by decide, by decide, by decide, by decide, H⟩
theorem i_vc (xs : Nat → Int32) (L : Nat) (hL : L ≤ 260) : wpL_law (fun r => r = 1) L xs := by
  refine ⟨9, 1840, by decide, by decide, bk_init ⟨by decide, by decide, 9, 1840, by decide, by decide, bk_init ⟨L + 2, ?_⟩⟩⟩
  exact bk_21 hL (L + 2) 0 1 _ _ _ _ _ _ _ _ _ _ _ _ _ _ _ _ _ _ _ _ _ _ _ _ _ _ _ _ _ _ _ _ (by omega) (by omega) ⟨bk_P0, bk_ok_0, fun _ => ⟨_, _, _, bk_S_0⟩, Or.inl ⟨_, _, _, bk_S_0⟩⟩
end
