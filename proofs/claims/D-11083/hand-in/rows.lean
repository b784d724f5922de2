section
/-- a truth value as the JVM keeps it -/
def lf_b : Bool → Int32
  | true => 1
  | false => 0
/-- a truth value as a number -/
def lf_n : Bool → Nat
  | true => 1
  | false => 0
/-- a boolean array out of a picture -/
def lf_a (B : Nat → Bool) : Nat → Int32 := fun c => lf_b (B c)
def lf_up (B : Nat → Bool) (k : Nat) (v : Bool) : Nat → Bool := fun j => if j = k then v else B j
theorem lf_up_s (B : Nat → Bool) (k : Nat) (v : Bool) : lf_up B k v k = v := if_pos rfl
theorem lf_up_n {B : Nat → Bool} {k j : Nat} {v : Bool} (h : j ≠ k) : lf_up B k v j = B j := if_neg h
theorem lf_upa (B : Nat → Bool) (k : Nat) (v : Bool) : upd (lf_a B) k (lf_b v) = lf_a (lf_up B k v) := by
  funext j
  by_cases h : j = k
  · rw [h, pk_us]
    show lf_b v = lf_b (lf_up B k v k)
    rw [lf_up_s]
  · rw [pk_un h]
    show lf_b (B j) = lf_b (lf_up B k v j)
    rw [lf_up_n h]
theorem lf_up1 (B : Nat → Bool) (k : Nat) : upd (lf_a B) k 1 = lf_a (lf_up B k true) := lf_upa B k true
theorem lf_b0 {b : Bool} : lf_b b = 0 ↔ b = false := by cases b <;> decide
theorem lf_binj {a b : Bool} : lf_b a = lf_b b ↔ a = b := by cases a <;> cases b <;> decide
theorem lf_nar (b : Bool) : vp_nar .boolean (lf_b b) = lf_b b := by cases b <;> first | rfl | decide
theorem lf_n1 (b : Bool) : lf_n b ≤ 1 := by cases b <;> decide
theorem lf_nand (a b : Bool) : lf_n (a && b) = lf_n a * lf_n b := by cases a <;> cases b <;> decide
theorem lf_nnot (a : Bool) : lf_n (!a) + lf_n a = 1 := by cases a <;> decide
/-- a branch on a truth value that is kept as a number -/
theorem lf_br {x : Int32} {A B : Prop} (b : Bool) (f : b = false → A) (g : b = true → B) (hx : x = lf_b b := by rfl) : (x = 0 → A) ∧ (¬ x = 0 → B) := by
  subst hx
  rw [lf_b0]
  refine ⟨f, fun h => g ?_⟩
  cases b
  · exact absurd rfl h
  · rfl
/-- the sum of f 0 .. f (n - 1) -/
def lf_s (f : Nat → Nat) : Nat → Nat
  | 0 => 0
  | n + 1 => lf_s f n + f n
theorem lf_s_s (f : Nat → Nat) (n : Nat) : lf_s f (n + 1) = lf_s f n + f n := rfl
theorem lf_s_congr {f g : Nat → Nat} {n : Nat} (h : ∀ j, j < n → f j = g j) : lf_s f n = lf_s g n := by
  induction n with
  | zero => rfl
  | succ n ih => rw [lf_s_s, lf_s_s, ih (fun j hj => h j (by omega)), h n (by omega)]
theorem lf_s_add (f g : Nat → Nat) (n : Nat) : lf_s (fun j => f j + g j) n = lf_s f n + lf_s g n := by
  induction n with
  | zero => rfl
  | succ n ih => rw [lf_s_s, lf_s_s, lf_s_s, ih]; omega
theorem lf_s_mul (a : Nat) (f : Nat → Nat) (n : Nat) : lf_s (fun j => a * f j) n = a * lf_s f n := by
  induction n with
  | zero => rfl
  | succ n ih => rw [lf_s_s, lf_s_s, ih, Nat.mul_add]
theorem lf_s_le {f : Nat → Nat} {n : Nat} (h : ∀ j, j < n → f j ≤ 1) : lf_s f n ≤ n := by
  induction n with
  | zero => exact Nat.le_refl 0
  | succ n ih =>
    have h1 := ih (fun j hj => h j (by omega))
    have h2 := h n (by omega)
    rw [lf_s_s]
    omega
theorem lf_s_0 {f : Nat → Nat} {n : Nat} (h : ∀ j, j < n → f j = 0) : lf_s f n = 0 := by
  induction n with
  | zero => rfl
  | succ n ih => rw [lf_s_s, ih (fun j hj => h j (by omega)), h n (by omega)]
theorem lf_s_1 {f : Nat → Nat} {n : Nat} (h : ∀ j, j < n → f j = 1) : lf_s f n = n := by
  induction n with
  | zero => rfl
  | succ n ih => rw [lf_s_s, ih (fun j hj => h j (by omega)), h n (by omega)]
theorem lf_s_pt {f g : Nat → Nat} {n k : Nat} (hk : k < n) (h : ∀ j, j ≠ k → f j = g j) : lf_s f n + g k = lf_s g n + f k := by
  induction n with
  | zero => exact absurd hk (Nat.not_lt_zero k)
  | succ n ih =>
    rw [lf_s_s, lf_s_s]
    by_cases e : k = n
    · have h1 : lf_s f n = lf_s g n := lf_s_congr (fun j hj => h j (by omega))
      rw [e, h1]
      omega
    · have h1 := ih (by omega)
      have h2 := h n (by omega)
      omega
theorem lf_s_ge {f : Nat → Nat} {n k : Nat} (hk : k < n) : f k ≤ lf_s f n := by
  induction n with
  | zero => exact absurd hk (Nat.not_lt_zero k)
  | succ n ih =>
    rw [lf_s_s]
    by_cases e : k = n
    · rw [e]
      omega
    · have h1 := ih (by omega)
      omega
theorem lf_s_mono {f g : Nat → Nat} {n : Nat} (h : ∀ j, j < n → f j ≤ g j) : lf_s f n ≤ lf_s g n := by
  induction n with
  | zero => exact Nat.le_refl 0
  | succ n ih =>
    have h1 := ih (fun j hj => h j (by omega))
    have h2 := h n (by omega)
    rw [lf_s_s, lf_s_s]
    omega
theorem lf_s_blk (g : Nat → Nat → Nat) (n : Nat) : lf_s (fun c => g (c % 6) (c / 6)) (6 * n) = lf_s (fun j => lf_s (fun x => g x j) 6) n := by
  induction n with
  | zero => rfl
  | succ n ih =>
    have h0 : g ((6 * n) % 6) ((6 * n) / 6) = g 0 n := by rw [show (6 * n) % 6 = 0 by omega, show (6 * n) / 6 = n by omega]
    have h1 : g ((6 * n + 1) % 6) ((6 * n + 1) / 6) = g 1 n := by rw [show (6 * n + 1) % 6 = 1 by omega, show (6 * n + 1) / 6 = n by omega]
    have h2 : g ((6 * n + 2) % 6) ((6 * n + 2) / 6) = g 2 n := by rw [show (6 * n + 2) % 6 = 2 by omega, show (6 * n + 2) / 6 = n by omega]
    have h3 : g ((6 * n + 3) % 6) ((6 * n + 3) / 6) = g 3 n := by rw [show (6 * n + 3) % 6 = 3 by omega, show (6 * n + 3) / 6 = n by omega]
    have h4 : g ((6 * n + 4) % 6) ((6 * n + 4) / 6) = g 4 n := by rw [show (6 * n + 4) % 6 = 4 by omega, show (6 * n + 4) / 6 = n by omega]
    have h5 : g ((6 * n + 5) % 6) ((6 * n + 5) / 6) = g 5 n := by rw [show (6 * n + 5) % 6 = 5 by omega, show (6 * n + 5) / 6 = n by omega]
    rw [show 6 * (n + 1) = 6 * n + 6 by omega, lf_s_s (fun j => lf_s (fun x => g x j) 6) n, ← ih]
    show lf_s (fun c => g (c % 6) (c / 6)) (6 * n) + g ((6 * n) % 6) ((6 * n) / 6) + g ((6 * n + 1) % 6) ((6 * n + 1) / 6) + g ((6 * n + 2) % 6) ((6 * n + 2) / 6) + g ((6 * n + 3) % 6) ((6 * n + 3) / 6) + g ((6 * n + 4) % 6) ((6 * n + 4) / 6) + g ((6 * n + 5) % 6) ((6 * n + 5) / 6) = lf_s (fun c => g (c % 6) (c / 6)) (6 * n) + (0 + g 0 n + g 1 n + g 2 n + g 3 n + g 4 n + g 5 n)
    rw [h0, h1, h2, h3, h4, h5]
    omega
theorem lf_s3 (f : Nat → Nat → Nat → Nat) : lf_s (fun c => f (c % 6) (c / 6 % 6) (c / 36)) 216 = lf_s (fun z => lf_s (fun y => lf_s (fun x => f x y z) 6) 6) 6 := by
  have e1 : lf_s (fun c => f (c % 6) (c / 6 % 6) (c / 36)) 216 = lf_s (fun c => (fun x j => f x (j % 6) (j / 6)) (c % 6) (c / 6)) (6 * 36) :=
    lf_s_congr (fun c _ => by
      show f (c % 6) (c / 6 % 6) (c / 36) = f (c % 6) (c / 6 % 6) (c / 6 / 6)
      rw [show c / 36 = c / 6 / 6 by omega])
  rw [e1, lf_s_blk (fun x j => f x (j % 6) (j / 6)) 36]
  exact lf_s_blk (fun y z => lf_s (fun x => f x y z) 6) 6
theorem lf_s_prod (p q r : Nat → Nat) : lf_s (fun c => p (c % 6) * q (c / 6 % 6) * r (c / 36)) 216 = lf_s p 6 * lf_s q 6 * lf_s r 6 := by
  have e : lf_s (fun c => p (c % 6) * q (c / 6 % 6) * r (c / 36)) 216 = lf_s (fun z => lf_s (fun y => lf_s (fun x => p x * q y * r z) 6) 6) 6 := lf_s3 (fun x y z => p x * q y * r z)
  have e1 : ∀ y z, lf_s (fun x => p x * q y * r z) 6 = lf_s p 6 * r z * q y := by
    intro y z
    have t : lf_s (fun x => p x * q y * r z) 6 = lf_s (fun x => (q y * r z) * p x) 6 := lf_s_congr (fun x _ => by
      show p x * q y * r z = (q y * r z) * p x
      rw [Nat.mul_assoc, Nat.mul_comm])
    rw [t, lf_s_mul, Nat.mul_comm (q y) (r z), Nat.mul_comm (r z * q y) (lf_s p 6), Nat.mul_assoc]
  have e2 : ∀ z, lf_s (fun y => lf_s (fun x => p x * q y * r z) 6) 6 = lf_s p 6 * lf_s q 6 * r z := by
    intro z
    have t : lf_s (fun y => lf_s (fun x => p x * q y * r z) 6) 6 = lf_s (fun y => (lf_s p 6 * r z) * q y) 6 := lf_s_congr (fun y _ => e1 y z)
    rw [t, lf_s_mul, Nat.mul_assoc, Nat.mul_comm (r z) (lf_s q 6), Nat.mul_assoc]
  have e3 : lf_s (fun z => lf_s (fun y => lf_s (fun x => p x * q y * r z) 6) 6) 6 = lf_s (fun z => (lf_s p 6 * lf_s q 6) * r z) 6 := lf_s_congr (fun z _ => e2 z)
  rw [e, e3, lf_s_mul]
end
section
/-- the step of a way; the neighbour of a cell in one of six ways -/
def lf_sz (w : Nat) : Nat := if w < 2 then 1 else if w < 4 then 6 else 36
def lf_nb (c w : Nat) : Option Nat :=
  if w % 2 = 0 then (if 0 < c / lf_sz w % 6 then some (c - lf_sz w) else none)
  else (if c / lf_sz w % 6 < 5 then some (c + lf_sz w) else none)
theorem lf_nb_e0 {c : Nat} (w : Nat) (hw : w % 2 = 0) (h : ¬ 0 < c / lf_sz w % 6) : lf_nb c w = none := by
  unfold lf_nb
  rw [if_pos hw, if_neg h]
theorem lf_nb_e1 {c : Nat} (w : Nat) (hw : w % 2 = 0) (h : 0 < c / lf_sz w % 6) : lf_nb c w = some (c - lf_sz w) := by
  unfold lf_nb
  rw [if_pos hw, if_pos h]
theorem lf_nb_o0 {c : Nat} (w : Nat) (hw : ¬ w % 2 = 0) (h : ¬ c / lf_sz w % 6 < 5) : lf_nb c w = none := by
  unfold lf_nb
  rw [if_neg hw, if_neg h]
theorem lf_nb_o1 {c : Nat} (w : Nat) (hw : ¬ w % 2 = 0) (h : c / lf_sz w % 6 < 5) : lf_nb c w = some (c + lf_sz w) := by
  unfold lf_nb
  rw [if_neg hw, if_pos h]
theorem lf_at {c s : Nat} (hc : c < 216) (h0 : 0 < s) (hs : s ≤ 36) : nI c / nI s - nI c / nI s / 6 * 6 = nI (c / s % 6) := by
  have h1 := Nat.div_le_self c s
  rw [pk_div (by omega) h0 (by omega)]
  exact pk_rem (a := c / s) (d := 6) (by omega) (by decide) (by decide)
theorem lf_ne1 {d : Nat} (hd : d < 216) : ¬ nI d = -1 := fun e => by
  have h := congrArg Int32.toInt e
  rw [nI_toInt (by omega), show (-1 : Int32).toInt = -1 from by decide] at h
  omega
theorem lf_nb23e {post : Int32 → Prop} {c s : Nat} {x1 : Int32} (hc : c < 216) (h0 : 0 < s) (hs : s ≤ 36) (he : x1 &&& 1 = 0) (hq : 0 < c / s % 6 → s ≤ c)
    (H0 : ¬ 0 < c / s % 6 → post (-1)) (H1 : 0 < c / s % 6 → post (nI (c - s))) : wX_neighbour_23 post (nI c) x1 (nI s) := by
  have hm : c / s % 6 < 6 := Nat.mod_lt _ (by decide)
  refine ⟨nI_ne0 h0 (by omega), by decide, nm_r (lf_at hc h0 hs) (br_t he ?_)⟩
  refine pk_le (c / s % 6) 0 (fun z => H0 (by omega)) (fun z => ?_)
  rw [pk_sub (hq z)]
  exact H1 z
theorem lf_nb23o {post : Int32 → Prop} {c s : Nat} {x1 : Int32} (hc : c < 216) (h0 : 0 < s) (hs : s ≤ 36) (he : ¬ x1 &&& 1 = 0)
    (H0 : ¬ c / s % 6 < 5 → post (-1)) (H1 : c / s % 6 < 5 → post (nI (c + s))) : wX_neighbour_23 post (nI c) x1 (nI s) := by
  have hm : c / s % 6 < 6 := Nat.mod_lt _ (by decide)
  refine ⟨nI_ne0 h0 (by omega), by decide, nm_r (lf_at hc h0 hs) (br_f he ?_)⟩
  refine pk_le 5 (c / s % 6) (fun z => H0 (by omega)) (fun z => ?_)
  rw [nI_add]
  exact H1 z
theorem lf_nbr {post : Int32 → Prop} {u : St0} {x y : Int32} {c w : Nat} (hx : x = nI c) (hy : y = nI w) (hc : c < 216) (hw : w < 6)
    (H0 : lf_nb c w = none → post (-1)) (H1 : ∀ d, d < 216 → lf_nb c w = some d → post (nI d)) : wpX_neighbour post u x y := by
  subst hx hy
  have hw' : w = 0 ∨ w = 1 ∨ w = 2 ∨ w = 3 ∨ w = 4 ∨ w = 5 := by omega
  rcases hw' with e | e | e | e | e | e
  · subst e
    refine pk_le 2 0 (fun z => absurd z (by omega)) (fun _ => pk_le 0 3 (fun _ => ?_) (fun z => absurd z (by omega)))
    exact lf_nb23e (s := 1) hc (by omega) (by omega) (by decide) (fun z => by omega) (fun z => H0 (lf_nb_e0 0 rfl z)) (fun z => H1 (c - 1) (by omega) (lf_nb_e1 0 rfl z))
  · subst e
    refine pk_le 2 1 (fun z => absurd z (by omega)) (fun _ => pk_le 1 3 (fun _ => ?_) (fun z => absurd z (by omega)))
    exact lf_nb23o (s := 1) hc (by omega) (by omega) (by decide) (fun z => H0 (lf_nb_o0 1 (by decide) z)) (fun z => H1 (c + 1) (by omega) (lf_nb_o1 1 (by decide) z))
  · subst e
    refine pk_le 2 2 (fun _ => pk_le 2 3 (fun _ => ?_) (fun z => absurd z (by omega))) (fun z => absurd z (by omega))
    exact lf_nb23e (s := 6) hc (by omega) (by omega) (by decide) (fun z => by omega) (fun z => H0 (lf_nb_e0 2 rfl z)) (fun z => H1 (c - 6) (by omega) (lf_nb_e1 2 rfl z))
  · subst e
    refine pk_le 2 3 (fun _ => pk_le 3 3 (fun _ => ?_) (fun z => absurd z (by omega))) (fun z => absurd z (by omega))
    exact lf_nb23o (s := 6) hc (by omega) (by omega) (by decide) (fun z => H0 (lf_nb_o0 3 (by decide) z)) (fun z => H1 (c + 6) (by omega) (lf_nb_o1 3 (by decide) z))
  · subst e
    refine pk_le 2 4 (fun _ => pk_le 4 3 (fun z => absurd z (by omega)) (fun _ => ?_)) (fun z => absurd z (by omega))
    exact lf_nb23e (s := 36) hc (by omega) (by omega) (by decide) (fun z => by omega) (fun z => H0 (lf_nb_e0 4 rfl z)) (fun z => H1 (c - 36) (by omega) (lf_nb_e1 4 rfl z))
  · subst e
    refine pk_le 2 5 (fun _ => pk_le 5 3 (fun z => absurd z (by omega)) (fun _ => ?_)) (fun z => absurd z (by omega))
    exact lf_nb23o (s := 36) hc (by omega) (by omega) (by decide) (fun z => H0 (lf_nb_o0 5 (by decide) z)) (fun z => H1 (c + 36) (by omega) (lf_nb_o1 5 (by decide) z))
theorem lf_drop {post : St2 → Prop} {x p0 : Int32} {k p : Nat} {a1 a2 a3 a4 a5 a6 a7 a8 a9 : Nat → Int32} (hx : x = nI k) (hp0 : p0 = nI p) (hk : k < 432) (hp : p < 432)
    (H : post (nI (k + 1), a1, a2, a3, upd a4 p 0, upd a5 p 1, upd a6 k (nI p), upd a7 k (a4 p), a8, a9)) : wpX_drop post (x, a1, a2, a3, a4, a5, a6, a7, a8, a9) p0 := by
  subst hx hp0
  unfold wpX_drop
  dsimp only
  rw [nI_clamp (show k < 2 ^ 31 by omega), nI_clamp (show p < 2 ^ 31 by omega)]
  exact ⟨pk_in k 432 hk, nm_e ⟨pk_in p 432 hp, pk_in k 432 hk, nm_e (nm_r (nI_1 k) ⟨pk_in p 432 hp, nm_e ⟨pk_in p 432 hp, nm_e H⟩⟩)⟩⟩
/-- what the stack of takeAway keeps: with the places that still have light it has room; it holds places -/
def lf_nz (a : Nat → Int32) (j : Nat) : Nat := if a j = 0 then 0 else 1
def lf_K (k : Nat) (a4 a6 : Nat → Int32) : Prop := k + lf_s (lf_nz a4) 432 ≤ 432 ∧ ∀ j, j < k → ∃ p, p < 432 ∧ a6 j = nI p
theorem lf_nz1 (a : Nat → Int32) (j : Nat) : lf_nz a j ≤ 1 := by
  unfold lf_nz
  by_cases h : a j = 0
  · rw [if_pos h]; omega
  · rw [if_neg h]; omega
theorem lf_K_0 (a4 a6 : Nat → Int32) : lf_K 0 a4 a6 := by
  have h : lf_s (lf_nz a4) 432 ≤ 432 := lf_s_le (fun j _ => lf_nz1 a4 j)
  exact ⟨by omega, fun j hj => absurd hj (by omega)⟩
theorem lf_K_drop {k p : Nat} {a4 a6 : Nat → Int32} (h : lf_K k a4 a6) (hp : p < 432) (h4 : ¬ a4 p = 0) : k < 432 ∧ lf_K (k + 1) (upd a4 p 0) (upd a6 k (nI p)) := by
  have e : lf_s (lf_nz (upd a4 p 0)) 432 + lf_nz a4 p = lf_s (lf_nz a4) 432 + lf_nz (upd a4 p 0) p := lf_s_pt hp (fun j hj => by
    unfold lf_nz
    rw [pk_un hj])
  have e1 : lf_nz a4 p = 1 := if_neg h4
  have e2 : lf_nz (upd a4 p 0) p = 0 := if_pos pk_us
  obtain ⟨h1, h2⟩ := h
  refine ⟨by omega, by omega, fun j hj => ?_⟩
  by_cases ej : j = k
  · exact ⟨p, hp, by rw [ej, pk_us]⟩
  · rw [pk_un ej]
    exact h2 j (by omega)
theorem lf_ta86 {post : St2 → Prop} {J : Int32 → Int32 → (Nat → Int32) → (Nat → Int32) → (Nat → Int32) → (Nat → Int32) → (Nat → Int32) → (Nat → Int32) → (Nat → Int32) → (Nat → Int32) → (Nat → Int32) → Prop} {x2 x3 x4 x5 : Int32} {b c : Nat} {a1 a2 a3 a8 a9 : Nat → Int32}
    (h3 : x3 - x5 = nI c) (h5 : x5 = nI b) (hc : c < 216) (hb : b ≤ 216)
    (HJ : ∀ k a4 a5 a6 a7, lf_K k a4 a6 → J (x2 + 1) (nI k) a1 a2 a3 a4 a5 a6 a7 a8 a9) {k : Nat} {a4 a5 a6 a7 : Nat → Int32} (hK : lf_K k a4 a6) :
    ∃ n, wX_takeAway_86 post J x2 x3 x4 x5 n 0 (nI k) a1 a2 a3 a4 a5 a6 a7 a8 a9 := by
  subst h5
  refine pk_loop (σ := Nat × (Nat → Int32) × (Nat → Int32) × (Nat → Int32) × (Nat → Int32)) (fun n i s => wX_takeAway_86 post J x2 x3 x4 (nI b) n (nI i) (nI s.1) a1 a2 a3 s.2.1 s.2.2.1 s.2.2.2.1 s.2.2.2.2 a8 a9) (fun i s => lf_K s.1 s.2.1 s.2.2.2.1) 6 0 (k, a4, a5, a6, a7) (by omega) hK ?_ ?_
  · intro n s h
    exact pk_le 6 6 (fun _ => nm_e (HJ s.1 s.2.1 s.2.2.1 s.2.2.2.1 s.2.2.2.2 h)) (fun z => absurd z (by omega))
  · intro n i s hi h hw
    obtain ⟨k, a4, a5, a6, a7⟩ := s
    have hw' : ∀ k a4 a5 a6 a7, lf_K k a4 a6 → wX_takeAway_86 post J x2 x3 x4 (nI b) n (nI (i + 1)) (nI k) a1 a2 a3 a4 a5 a6 a7 a8 a9 := fun k a4 a5 a6 a7 h => hw (k, a4, a5, a6, a7) h
    have h' : lf_K k a4 a6 := h
    refine pk_le 6 i (fun z => absurd z (by omega)) (fun _ => lf_nbr h3 rfl hc hi (fun _ => ?_) (fun d hd e => ?_))
    · exact br_t rfl (nm_r (nI_1 i) (hw' k a4 a5 a6 a7 h'))
    · refine br_f (lf_ne1 hd) ?_
      dsimp only
      rw [nI_add b d, nI_clamp (show b + d < 2 ^ 31 by omega)]
      refine ⟨pk_in (b + d) 432 (by omega), br_c (fun z => nm_r (nI_1 i) (hw' _ _ _ _ _ h')) (fun z => ⟨pk_in (b + d) 432 (by omega), br_c (fun _ => ⟨pk_in (b + d) 432 (by omega), nm_e (nm_r (nI_1 i) (hw' _ _ _ _ _ h'))⟩) (fun _ => ?_)⟩)⟩
      have hz : ¬ a4 (b + d) = 0 := fun e => z (by rw [e]; decide)
      obtain ⟨hk, hK'⟩ := lf_K_drop h' (show b + d < 432 by omega) hz
      exact lf_drop rfl rfl hk (by omega) (nm_r (nI_1 i) (hw' _ _ _ _ _ hK'))
theorem lf_ta22 {post : St2 → Prop} {a1 a2 a3 a8 a9 : Nat → Int32} (H : ∀ w a4 a5 a6 a7, post (w, a1, a2, a3, a4, a5, a6, a7, a8, a9)) {k : Nat} {a4 a5 a6 a7 : Nat → Int32} (hK : lf_K k a4 a6) :
    ∃ n, wX_takeAway_22 post n 0 (nI k) a1 a2 a3 a4 a5 a6 a7 a8 a9 := by
  refine pk_loop (σ := Nat × (Nat → Int32) × (Nat → Int32) × (Nat → Int32) × (Nat → Int32)) (fun n i s => wX_takeAway_22 post n (nI i) (nI s.1) a1 a2 a3 s.2.1 s.2.2.1 s.2.2.2.1 s.2.2.2.2 a8 a9) (fun i s => lf_K s.1 s.2.1 s.2.2.2.1) 432 0 (k, a4, a5, a6, a7) (by omega) hK ?_ ?_
  · intro n s h
    exact pk_le 432 432 (fun _ => H _ _ _ _ _) (fun z => absurd z (by omega))
  · intro n i s hi h hw
    obtain ⟨k, a4, a5, a6, a7⟩ := s
    have hw' : ∀ k a4 a5 a6 a7, lf_K k a4 a6 → wX_takeAway_22 post n (nI i + 1) (nI k) a1 a2 a3 a4 a5 a6 a7 a8 a9 := fun k a4 a5 a6 a7 h => by
      rw [nI_1]
      exact hw (k, a4, a5, a6, a7) h
    have h' : lf_K k a4 a6 := h
    clear hw h
    rcases k with _ | m
    · exact pk_le 432 i (fun z => absurd z (by omega)) (fun _ => pk_le 0 0 (fun _ => H _ _ _ _ _) (fun z => absurd z (by omega)))
    · obtain ⟨h1, h2⟩ := h'
      have hm : m < 432 := by omega
      obtain ⟨p, hp, ep⟩ := h2 m (by omega)
      have hK' : lf_K m a4 a6 := ⟨by omega, fun j hj => h2 j (by omega)⟩
      refine pk_le 432 i (fun z => absurd z (by omega)) (fun _ => pk_le (m + 1) 0 (fun z => absurd z (by omega)) (fun _ => nm_r (nI_pred m) ⟨pk_in m 432 hm, nm_r (e' := nI p) ?_ ⟨pk_in m 432 hm, nm_e ?_⟩⟩))
      · rw [nI_clamp (by omega)]
        exact ep
      · refine pk_le 216 p (fun z => lf_ta86 (b := 216) (c := p - 216) (pk_sub z) rfl (by omega) (by omega) hw' hK') (fun z => lf_ta86 (b := 0) (c := p) ?_ rfl z (by omega) hw' hK')
        exact pk_sub (Nat.zero_le p)
theorem lf_take {post : St2 → Prop} {w x : Int32} {p : Nat} {a1 a2 a3 a4 a5 a6 a7 a8 a9 : Nat → Int32} (hx : x = nI p) (hp : p < 432)
    (H : ∀ w a4 a5 a6 a7, post (w, a1, a2, a3, a4, a5, a6, a7, a8, a9)) : wpX_takeAway post (w, a1, a2, a3, a4, a5, a6, a7, a8, a9) x := by
  subst hx
  unfold wpX_takeAway
  dsimp only
  rw [nI_clamp (show p < 2 ^ 31 by omega)]
  refine ⟨pk_in p 432 hp, br_c (fun _ => H _ _ _ _ _) (fun z => ?_)⟩
  exact lf_drop (k := 0) rfl rfl (by omega) hp (lf_ta22 H (lf_K_drop (lf_K_0 a4 a6) hp z).2)
end
section
theorem lf_pass18 {post : St2 → Prop} {x1 x2 x3 w : Int32} {b c : Nat} {a1 a2 a3 a6 a7 a8 a9 : Nat → Int32} (h1 : x1 - x3 = nI c) (h3 : x3 = nI b) (hc : c < 216) (hb : b ≤ 216)
    (H : ∀ a4 a5, post (w, a1, a2, a3, a4, a5, a6, a7, a8, a9)) (a4 a5 : Nat → Int32) : ∃ n, wX_pass_18 post x1 x2 x3 w n 0 a1 a2 a3 a4 a5 a6 a7 a8 a9 := by
  subst h3
  refine pk_loop (σ := (Nat → Int32) × (Nat → Int32)) (fun n i s => wX_pass_18 post x1 x2 (nI b) w n (nI i) a1 a2 a3 s.1 s.2 a6 a7 a8 a9) (fun _ _ => True) 6 0 (a4, a5) (by omega) trivial ?_ ?_
  · intro n s _
    exact pk_le 6 6 (fun _ => H _ _) (fun z => absurd z (by omega))
  · intro n i s hi _ hw
    obtain ⟨a4, a5⟩ := s
    have hw' : ∀ a4 a5, wX_pass_18 post x1 x2 (nI b) w n (nI (i + 1)) a1 a2 a3 a4 a5 a6 a7 a8 a9 := fun a4 a5 => hw (a4, a5) trivial
    refine pk_le 6 i (fun z => absurd z (by omega)) (fun _ => lf_nbr h1 rfl hc hi (fun _ => br_t rfl (nm_r (nI_1 i) (hw' _ _))) (fun d hd e => br_f (lf_ne1 hd) ?_))
    refine ⟨pk_in d 216 hd, br_c (fun _ => ⟨pk_in (b + d) 432 (by omega) (nI_add b d), br_c (fun _ => nm_r (nI_1 i) (hw' _ _)) (fun _ => ?_)⟩) (fun _ => nm_r (nI_1 i) (hw' _ _))⟩
    exact ⟨pk_in (b + d) 432 (by omega) (nI_add b d), nm_e ⟨pk_in (b + d) 432 (by omega) (nI_add b d), nm_e (nm_r (nI_1 i) (hw' _ _))⟩⟩
theorem lf_pass {post : St2 → Prop} {w x y : Int32} {p : Nat} {a1 a2 a3 a4 a5 a6 a7 a8 a9 : Nat → Int32} (hx : x = nI p) (hp : p < 432)
    (H : ∀ a4 a5, post (w, a1, a2, a3, a4, a5, a6, a7, a8, a9)) : wpX_pass post (w, a1, a2, a3, a4, a5, a6, a7, a8, a9) x y := by
  subst hx
  unfold wpX_pass
  dsimp only
  exact pk_le 216 p (fun z => lf_pass18 (b := 216) (c := p - 216) (pk_sub z) rfl (by omega) (by omega) H a4 a5) (fun z => lf_pass18 (b := 0) (c := p) (pk_sub (Nat.zero_le p)) rfl z (by omega) H a4 a5)
theorem lf_source {post : Int32 → Prop} {w x : Int32} {p : Nat} {a1 a2 a3 a4 a5 a6 a7 a8 a9 : Nat → Int32} (hx : x = nI p) (hp : p < 432)
    (H : ∀ r, post r) : wpX_source post (w, a1, a2, a3, a4, a5, a6, a7, a8, a9) x := by
  subst hx
  unfold wpX_source
  dsimp only
  exact pk_le 216 p (fun z => ⟨pk_in (p - 216) 216 (by omega) (pk_sub z), br_c (fun _ => H _) (fun _ => H _)⟩) (fun z => ⟨pk_in p 216 z, H _⟩)
theorem lf_fl118 {post : St2 → Prop} {w : Int32} {a1 a2 a3 a4 a6 a7 a8 a9 : Nat → Int32} (H : ∀ a5, post (w, a1, a2, a3, a4, a5, a6, a7, a8, a9)) (a5 : Nat → Int32) :
    ∃ n, wX_flow_118 post w n 0 a1 a2 a3 a4 a5 a6 a7 a8 a9 :=
  pk_loop (fun n i s => wX_flow_118 post w n (nI i) a1 a2 a3 a4 s a6 a7 a8 a9) (fun _ _ => True) 432 0 a5 (by omega) trivial
    (fun n s _ => pk_le 432 432 (fun _ => H s) (fun z => absurd z (by omega)))
    (fun n i s hi _ hw => pk_le 432 i (fun z => absurd z (by omega)) (fun _ => ⟨pk_in i 432 hi, nm_e (nm_r (nI_1 i) (hw _ trivial))⟩))
theorem lf_fl65 {post : St2 → Prop} {J : Int32 → Int32 → (Nat → Int32) → (Nat → Int32) → (Nat → Int32) → (Nat → Int32) → (Nat → Int32) → (Nat → Int32) → (Nat → Int32) → (Nat → Int32) → (Nat → Int32) → Prop} {x1 w : Int32} {a1 a2 a3 a6 a7 a8 a9 : Nat → Int32}
    (HJ : ∀ a4 a5, J (x1 + (-1)) w a1 a2 a3 a4 a5 a6 a7 a8 a9) (a4 a5 : Nat → Int32) : ∃ n, wX_flow_65 post J x1 n 0 w a1 a2 a3 a4 a5 a6 a7 a8 a9 := by
  refine pk_loop (σ := (Nat → Int32) × (Nat → Int32)) (fun n i s => wX_flow_65 post J x1 n (nI i) w a1 a2 a3 s.1 s.2 a6 a7 a8 a9) (fun _ _ => True) 432 0 (a4, a5) (by omega) trivial ?_ ?_
  · intro n s _
    exact pk_le 432 432 (fun _ => nm_e (HJ _ _)) (fun z => absurd z (by omega))
  · intro n i s hi _ hw
    obtain ⟨a4, a5⟩ := s
    have hw' : ∀ a4 a5, wX_flow_65 post J x1 n (nI (i + 1)) w a1 a2 a3 a4 a5 a6 a7 a8 a9 := fun a4 a5 => hw (a4, a5) trivial
    refine pk_le 432 i (fun z => absurd z (by omega)) (fun _ => ⟨pk_in i 432 hi, br_c (fun _ => nm_r (nI_1 i) (hw' _ _)) (fun _ => ⟨pk_in i 432 hi, br_c (fun _ => ⟨pk_in i 432 hi, nm_e ?_⟩) (fun _ => nm_r (nI_1 i) (hw' _ _))⟩)⟩)
    exact lf_pass rfl hi (fun a4 a5 => nm_r (nI_1 i) (hw' a4 a5))
theorem lf_fl59 {post : St2 → Prop} {w : Int32} {a1 a2 a3 a6 a7 a8 a9 : Nat → Int32} (H : ∀ a4 a5, post (w, a1, a2, a3, a4, a5, a6, a7, a8, a9)) (a4 a5 : Nat → Int32) :
    ∃ n, wX_flow_59 post n 12 w a1 a2 a3 a4 a5 a6 a7 a8 a9 := by
  refine ⟨12 + 1, pk_loopD (σ := (Nat → Int32) × (Nat → Int32)) (fun n i s => i ≤ 12 → wX_flow_59 post n (nI i) w a1 a2 a3 s.1 s.2 a6 a7 a8 a9) (fun _ _ => True) ?_ ?_ 12 (a4, a5) trivial (by omega)⟩
  · intro n s _ _
    exact pk_le 0 0 (fun _ => lf_fl118 (fun a5 => H _ a5) _) (fun z => absurd z (by omega))
  · intro n i s _ hw hi
    exact pk_le (i + 1) 0 (fun z => absurd z (by omega)) (fun _ => lf_fl65 (fun a4 a5 => by rw [pk_m1]; exact hw (a4, a5) trivial (by omega)) _ _)
theorem lf_fl2 {post : St2 → Prop} {w : Int32} {a1 a2 a3 a6 a7 a8 a9 : Nat → Int32} (H : ∀ a4 a5, post (w, a1, a2, a3, a4, a5, a6, a7, a8, a9)) (a4 a5 : Nat → Int32) :
    ∃ n, wX_flow_2 post w n 0 a1 a2 a3 a4 a5 a6 a7 a8 a9 := by
  refine pk_loop (fun n i s => wX_flow_2 post w n (nI i) a1 a2 a3 s a5 a6 a7 a8 a9) (fun _ _ => True) 432 0 a4 (by omega) trivial ?_ ?_
  · intro n s _
    exact pk_le 432 432 (fun _ => lf_fl59 H _ _) (fun z => absurd z (by omega))
  · intro n i s hi _ hw
    refine pk_le 432 i (fun z => absurd z (by omega)) (fun _ => ⟨pk_in i 432 hi, br_c (fun _ => nm_r (nI_1 i) (hw _ trivial)) (fun _ => ?_)⟩)
    exact lf_source rfl hi (fun r => ⟨pk_in i 432 hi, br_c (fun _ => ⟨pk_in i 432 hi, pk_in i 432 hi, nm_e (nm_r (nI_1 i) (hw _ trivial))⟩) (fun _ => ⟨pk_in i 432 hi, nm_e (nm_r (nI_1 i) (hw _ trivial))⟩)⟩)
theorem lf_flow {post : St2 → Prop} {w : Int32} {a1 a2 a3 a4 a5 a6 a7 a8 a9 : Nat → Int32} (H : ∀ a4 a5, post (w, a1, a2, a3, a4, a5, a6, a7, a8, a9)) :
    wpX_flow post (w, a1, a2, a3, a4, a5, a6, a7, a8, a9) := by
  unfold wpX_flow
  dsimp only
  exact lf_fl2 H a4 a5
end
section
/-- a cell sees the sky: it isn't solid, and it is on top or the cell above sees it -/
def lf_sp (B V : Nat → Bool) (c : Nat) : Prop := V c = (!B c && (decide (180 ≤ c) || V (c + 36)))
def lf_see (B V : Nat → Bool) : Prop := ∀ c, c < 216 → lf_sp B V c
theorem lf_dn_0 {r : Nat} (hr : r < 36) : nI (r + 36 * 0) - 36 < 0 := pk_sneg (b := 36) (by decide) (by omega)
theorem lf_dn_s (r z : Nat) : nI (r + 36 * (z + 1)) - 36 = nI (r + 36 * z) := by
  have h := pk_sub (a := r + 36 * (z + 1)) (b := 36) (by omega)
  rw [show r + 36 * (z + 1) - 36 = r + 36 * z by omega] at h
  exact h
theorem lf_m36 (x : Int32) : x + (-36) = x - 36 := (Int32.sub_eq_add_neg x 36).symm
theorem lf_ch154 {post : St2 → Prop} {w : Int32} {c : Nat} {a1 a2 a3 a4 a6 a7 a8 a9 : Nat → Int32} (hc : c < 216) (H : ∀ a4 a5, post (w, a1, a2, a3, a4, a5, a6, a7, a8, a9)) (a5 : Nat → Int32) :
    ∃ n, wX_change_154 post (nI c) w n 0 a1 a2 a3 a4 a5 a6 a7 a8 a9 := by
  refine pk_loop (fun n i s => wX_change_154 post (nI c) w n (nI i) a1 a2 a3 a4 s a6 a7 a8 a9) (fun _ _ => True) 6 0 a5 (by omega) trivial ?_ ?_
  · intro n s _
    exact pk_le 6 6 (fun _ => lf_flow (fun a4 a5 => H a4 a5)) (fun z => absurd z (by omega))
  · intro n i s hi _ hw
    refine pk_le 6 i (fun z => absurd z (by omega)) (fun _ => lf_nbr rfl rfl hc hi (fun _ => br_t rfl (nm_r (nI_1 i) (hw _ trivial))) (fun d hd e => br_f (lf_ne1 hd) ?_))
    exact ⟨pk_in d 432 (by omega), nm_e ⟨pk_in (216 + d) 432 (by omega) (nI_add 216 d), nm_e (nm_r (nI_1 i) (hw _ trivial))⟩⟩
theorem lf_see_step {B V : Nat → Bool} {r z : Nat} {sky : Bool} (hr : r < 36) (hz : z < 6) (hs : sky = (decide (216 ≤ r + 36 * (z + 1)) || V (r + 36 * (z + 1))))
    (h : ∀ c, c < 216 → (c % 36 = r ∧ c < r + 36 * (z + 1)) ∨ lf_sp B V c) :
    (∀ c, c < 216 → (c % 36 = r ∧ c < r + 36 * z) ∨ lf_sp B (lf_up V (r + 36 * z) (sky && !B (r + 36 * z))) c) := by
  intro c hc
  by_cases hL : c % 36 = r ∧ c < r + 36 * z
  · exact Or.inl hL
  · refine Or.inr ?_
    unfold lf_sp
    by_cases e : c = r + 36 * z
    · rw [← e, lf_up_s, lf_up_n (show c + 36 ≠ c by omega), hs, show r + 36 * (z + 1) = c + 36 by omega, Bool.and_comm]
      have e2 : decide (216 ≤ c + 36) = decide (180 ≤ c) := by
        by_cases t : 180 ≤ c
        · rw [decide_eq_true t, decide_eq_true (show 216 ≤ c + 36 by omega)]
        · rw [decide_eq_false t, decide_eq_false (show ¬ 216 ≤ c + 36 by omega)]
      rw [e2]
    · rw [lf_up_n e, lf_up_n (show c + 36 ≠ r + 36 * z by omega)]
      rcases h c hc with t | t
      · exact absurd t (by omega)
      · exact t
theorem lf_ch93 {post : St2 → Prop} {w : Int32} {c r : Nat} {B : Nat → Bool} {a2 a4 a6 a7 a8 a9 : Nat → Int32} (hc : c < 216) (hr : r < 36)
    (H : ∀ V a4 a5, lf_see B V → post (w, lf_a B, a2, lf_a V, a4, a5, a6, a7, a8, a9)) :
    ∀ (z : Nat) (s : Bool × (Nat → Bool) × (Nat → Int32)), (z ≤ 6 ∧ s.1 = (decide (216 ≤ r + 36 * z) || s.2.1 (r + 36 * z)) ∧ ∀ c, c < 216 → (c % 36 = r ∧ c < r + 36 * z) ∨ lf_sp B s.2.1 c) →
      wX_change_93 post (nI c) w (z + 1) (lf_b s.1) (nI (r + 36 * z) - 36) (lf_a B) a2 (lf_a s.2.1) a4 s.2.2 a6 a7 a8 a9 := by
  refine pk_loopD (σ := Bool × (Nat → Bool) × (Nat → Int32)) (fun n z s => wX_change_93 post (nI c) w n (lf_b s.1) (nI (r + 36 * z) - 36) (lf_a B) a2 (lf_a s.2.1) a4 s.2.2 a6 a7 a8 a9) (fun z s => z ≤ 6 ∧ s.1 = (decide (216 ≤ r + 36 * z) || s.2.1 (r + 36 * z)) ∧ ∀ c, c < 216 → (c % 36 = r ∧ c < r + 36 * z) ∨ lf_sp B s.2.1 c) ?_ ?_
  · intro n s h
    obtain ⟨sky, V, a5⟩ := s
    obtain ⟨_, _, h3⟩ := h
    have hV : lf_see B V := fun d hd => by
      rcases h3 d hd with t | t
      · exact absurd t (by omega)
      · exact t
    exact br_t (lf_dn_0 hr) ⟨pk_in c 432 (by omega), nm_e (lf_ch154 hc (fun a4 a5 => H V a4 a5 hV) _)⟩
  · intro n z s h hw
    obtain ⟨sky, V, a5⟩ := s
    obtain ⟨h1, h2, h3⟩ := h
    have h3' := lf_see_step hr (by omega) h2 h3
    have hm : r + 36 * z < 216 := by omega
    have key : wX_change_117 post (wX_change_93 post (nI c) w n) (nI c) (nI (r + 36 * z)) (lf_b (sky && !B (r + 36 * z))) w (lf_a B) a2 (lf_a V) a4 a5 a6 a7 a8 a9 := by
      unfold wX_change_117
      rw [nI_clamp (show r + 36 * z < 2 ^ 31 by omega), lf_nar, lf_upa]
      refine ⟨pk_in (r + 36 * z) 216 hm, nm_e ⟨pk_in (216 + (r + 36 * z)) 432 (by omega) (nI_add 216 _), nm_e (nm_r (lf_m36 _) (hw (sky && !B (r + 36 * z), lf_up V (r + 36 * z) (sky && !B (r + 36 * z)), _) ⟨by omega, ?_, h3'⟩))⟩⟩
      show (sky && !B (r + 36 * z)) = (decide (216 ≤ r + 36 * z) || lf_up V (r + 36 * z) (sky && !B (r + 36 * z)) (r + 36 * z))
      rw [lf_up_s, decide_eq_false (show ¬ 216 ≤ r + 36 * z by omega), Bool.false_or]
    show wX_change_93 post (nI c) w (n + 1) (lf_b sky) (nI (r + 36 * (z + 1)) - 36) (lf_a B) a2 (lf_a V) a4 a5 a6 a7 a8 a9
    rw [lf_dn_s]
    refine br_f (nI_pos (by omega)) (lf_br sky (fun e => ?_) (fun e => ⟨pk_in (r + 36 * z) 216 hm, ?_⟩))
    · rw [e] at key
      exact key
    · rw [e, Bool.true_and] at key
      rw [nI_clamp (show r + 36 * z < 2 ^ 31 by omega)]
      refine lf_br (B (r + 36 * z)) (fun t => ?_) (fun t => ?_)
      · rw [t] at key
        exact key
      · rw [t] at key
        exact key
theorem lf_ch27 {post : St2 → Prop} {c r q : Nat} {v : Bool} {B V : Nat → Bool} {a2 a8 a9 : Nat → Int32} (hc : c < 216) (hr : r < 36) (hq : c = r + 36 * q) (hV : lf_see B V)
    (H : ∀ w V a4 a5 a6 a7, lf_see (lf_up B c v) V → post (w, lf_a (lf_up B c v), a2, lf_a V, a4, a5, a6, a7, a8, a9)) :
    ∀ (z : Nat) (s : Int32 × (Nat → Int32) × (Nat → Int32) × (Nat → Int32) × (Nat → Int32)), z ≤ 6 →
      wX_change_27 post (nI c) (lf_b v) (z + 1) (nI (r + 36 * z) - 36) s.1 (lf_a B) a2 (lf_a V) s.2.1 s.2.2.1 s.2.2.2.1 s.2.2.2.2 a8 a9 := by
  refine pk_loopD (σ := Int32 × (Nat → Int32) × (Nat → Int32) × (Nat → Int32) × (Nat → Int32)) (fun n z s => wX_change_27 post (nI c) (lf_b v) n (nI (r + 36 * z) - 36) s.1 (lf_a B) a2 (lf_a V) s.2.1 s.2.2.1 s.2.2.2.1 s.2.2.2.2 a8 a9) (fun z _ => z ≤ 6) ?_ ?_
  · intro n s _
    obtain ⟨w, a4, a5, a6, a7⟩ := s
    have hS : ∀ d, d < 216 → (d % 36 = r ∧ d < r + 36 * (q + 1)) ∨ lf_sp (lf_up B c v) V d := by
      intro d hd
      by_cases e : d = c
      · exact Or.inl (by omega)
      · refine Or.inr ?_
        unfold lf_sp
        rw [lf_up_n e]
        exact hV d hd
    have hx : nI (r + 36 * (q + 1)) - 36 = nI c := by rw [lf_dn_s, hq]
    have key : ∀ sky : Bool, sky = (decide (216 ≤ c + 36) || V (c + 36)) → ∃ fu, wX_change_93 post (nI c) w fu (lf_b sky) (nI c) (lf_a (lf_up B c v)) a2 (lf_a V) a4 a5 a6 a7 a8 a9 := by
      intro sky hs
      have t := lf_ch93 (post := post) (w := w) (a2 := a2) (a4 := a4) (a6 := a6) (a7 := a7) (a8 := a8) (a9 := a9) hc hr (fun V a4 a5 h => H w V a4 a5 a6 a7 h) (q + 1) (sky, V, a5) ⟨by omega, by rw [show r + 36 * (q + 1) = c + 36 by omega]; exact hs, hS⟩
      rw [hx] at t
      exact ⟨_, t⟩
    refine br_t (lf_dn_0 hr) ⟨pk_in c 216 hc, nm_r (e' := lf_a (lf_up B c v)) ?_ ?_⟩
    · rw [nI_clamp (show c < 2 ^ 31 by omega), lf_nar, lf_upa]
    · refine pk_le 216 (c + 36) (fun z => key true ?_) (fun z => ⟨pk_in (c + 36) 216 (by omega) (nI_add c 36), ?_⟩) rfl (nI_add c 36)
      · rw [decide_eq_true z, Bool.true_or]
      · have e0 : decide (216 ≤ c + 36) = false := decide_eq_false (by omega)
        rw [show nI c + 36 = nI (c + 36) from nI_add c 36, nI_clamp (show c + 36 < 2 ^ 31 by omega)]
        refine lf_br (V (c + 36)) (fun t => key false ?_) (fun t => key true ?_)
        · rw [e0, t]; rfl
        · rw [e0, t]; rfl
  · intro n z s h hw
    obtain ⟨w, a4, a5, a6, a7⟩ := s
    have hm : r + 36 * z < 216 := by omega
    have hw' : ∀ w a4 a5 a6 a7, wX_change_27 post (nI c) (lf_b v) n (nI (r + 36 * z) - 36) w (lf_a B) a2 (lf_a V) a4 a5 a6 a7 a8 a9 := fun w a4 a5 a6 a7 => hw (w, a4, a5, a6, a7) (by omega)
    show wX_change_27 post (nI c) (lf_b v) (n + 1) (nI (r + 36 * (z + 1)) - 36) w (lf_a B) a2 (lf_a V) a4 a5 a6 a7 a8 a9
    rw [lf_dn_s]
    refine br_f (nI_pos (by omega)) ⟨pk_in (r + 36 * z) 216 hm, br_c (fun _ => nm_r (lf_m36 _) (hw' _ _ _ _ _)) (fun _ => ?_)⟩
    exact lf_take (nI_add 216 (r + 36 * z)) (by omega) (fun w a4 a5 a6 a7 => nm_r (lf_m36 _) (hw' w a4 a5 a6 a7))
theorem lf_change {post : St2 → Prop} {w x y : Int32} {c : Nat} {v : Bool} {B V : Nat → Bool} {a2 a4 a5 a6 a7 a8 a9 : Nat → Int32} (hx : x = nI c) (hy : y = lf_b v) (hc : c < 216) (hV : lf_see B V) (hn : ¬ B c = v)
    (H : ∀ w V a4 a5 a6 a7, lf_see (lf_up B c v) V → post (w, lf_a (lf_up B c v), a2, lf_a V, a4, a5, a6, a7, a8, a9)) :
    wpX_change post (w, lf_a B, a2, lf_a V, a4, a5, a6, a7, a8, a9) x y := by
  subst hx hy
  unfold wpX_change
  dsimp only
  rw [nI_clamp (show c < 2 ^ 31 by omega)]
  refine ⟨pk_in c 216 hc, br_f (fun e => hn (lf_binj.mp e)) ?_⟩
  refine lf_take rfl (by omega) (fun w a4 a5 a6 a7 => lf_take (nI_add 216 c) (by omega) (fun w a4 a5 a6 a7 => ?_))
  have t := lf_ch27 (post := post) (q := c / 36) (r := c % 36) (v := v) (a2 := a2) (a8 := a8) (a9 := a9) hc (by omega) (by omega) hV H (c / 36 + 1) (w, a4, a5, a6, a7) (by omega)
  rw [lf_dn_s, show c % 36 + 36 * (c / 36) = c by omega] at t
  exact ⟨_, t⟩
end
section
def lf_iv (a b x : Nat) : Bool := decide (a ≤ x) && decide (x ≤ b)
def lf_ed (a b x : Nat) : Bool := decide (x = a) || decide (x = b)
/-- in the box; on its wall -/
def lf_in (l h c : Nat) : Bool := lf_iv (l % 6) (h % 6) (c % 6) && lf_iv (l / 6 % 6) (h / 6 % 6) (c / 6 % 6) && lf_iv (l / 36) (h / 36) (c / 36)
def lf_wl (l h c : Nat) : Bool := lf_ed (l % 6) (h % 6) (c % 6) || lf_ed (l / 6 % 6) (h / 6 % 6) (c / 6 % 6) || lf_ed (l / 36) (h / 36) (c / 36)
def lf_good (l h : Nat) : Prop := l % 6 ≤ h % 6 ∧ l / 6 % 6 ≤ h / 6 % 6 ∧ l / 36 ≤ h / 36
theorem lf_iv_lo {a b x : Nat} (h : x < a) : lf_iv a b x = false := by
  unfold lf_iv
  rw [decide_eq_false (show ¬ a ≤ x by omega), Bool.false_and]
theorem lf_iv_hi {a b x : Nat} (h : b < x) : lf_iv a b x = false := by
  unfold lf_iv
  rw [decide_eq_false (show ¬ x ≤ b by omega), Bool.and_false]
theorem lf_iv_in {a b x : Nat} (h : a ≤ x) (h2 : x ≤ b) : lf_iv a b x = true := by
  unfold lf_iv
  rw [decide_eq_true h, decide_eq_true h2, Bool.and_true]
theorem lf_ed_l {a b x : Nat} (h : x = a) : lf_ed a b x = true := by
  unfold lf_ed
  rw [decide_eq_true h, Bool.true_or]
theorem lf_ed_h {a b x : Nat} (h : x = b) : lf_ed a b x = true := by
  unfold lf_ed
  rw [decide_eq_true h, Bool.or_true]
theorem lf_ed_n {a b x : Nat} (h : x ≠ a) (h2 : x ≠ b) : lf_ed a b x = false := by
  unfold lf_ed
  rw [decide_eq_false h, decide_eq_false h2, Bool.or_false]
theorem lf_m6 {c : Nat} (hc : c < 216) : nI c - nI c / 6 * 6 = nI (c % 6) := pk_rem (d := 6) (by omega) (by decide) (by decide)
theorem lf_d6 {c : Nat} (hc : c < 216) : nI c / 6 - nI c / 6 / 6 * 6 = nI (c / 6 % 6) := lf_at (s := 6) hc (by decide) (by decide)
theorem lf_d36 {c : Nat} (hc : c < 216) : nI c / 36 = nI (c / 36) := pk_div (d := 36) (by omega) (by decide) (by decide)
theorem lf_cell1 {post : Int32 → Prop} {u : St0} {x : Int32} {c : Nat} (hx : x = nI c) (hc : c < 216) (H : post 1) : wpX_isCell post u x :=
  pk_lt c 0 (fun z => absurd z (by omega)) (fun _ => pk_le 216 c (fun z => absurd z (by omega)) (fun _ => H) rfl hx) hx
theorem lf_cell0 {post : Int32 → Prop} {u : St0} {x : Int32} (hx : x < 0 ∨ 216 ≤ x) (H : post 0) : wpX_isCell post u x :=
  br_c (fun _ => H) (fun z => br_c (fun _ => H) (fun t => absurd hx (fun o => o.elim z t)))
theorem lf_box {post : Int32 → Prop} {u : St0} {l h : Nat} (hl : l < 216) (hh : h < 216) (H0 : ¬ lf_good l h → post 0) (H1 : lf_good l h → post 1) : wpX_isBox post u (nI l) (nI h) := by
  refine lf_cell1 rfl hl (br_f (by decide) (lf_cell1 rfl hh (br_f (by decide) ⟨by decide, by decide, ?_⟩)))
  refine pk_lt (h % 6) (l % 6) (fun z => H0 (fun g => absurd g.1 (by omega))) (fun z1 => ⟨by decide, by decide, by decide, by decide, ?_⟩) (lf_m6 hh) (lf_m6 hl)
  refine pk_lt (h / 6 % 6) (l / 6 % 6) (fun z => H0 (fun g => absurd g.2.1 (by omega))) (fun z2 => ⟨by decide, by decide, ?_⟩) (lf_d6 hh) (lf_d6 hl)
  exact pk_lt (h / 36) (l / 36) (fun z => H0 (fun g => absurd g.2.2 (by omega))) (fun z3 => H1 ⟨z1, z2, z3⟩) (lf_d36 hh) (lf_d36 hl)
theorem lf_box0 {post : Int32 → Prop} {u : St0} {x y : Int32} (h : (x < 0 ∨ 216 ≤ x) ∨ (y < 0 ∨ 216 ≤ y)) (H0 : post 0) : wpX_isBox post u x y := by
  unfold wpX_isBox
  by_cases hx : x < 0 ∨ 216 ≤ x
  · exact lf_cell0 hx (br_t rfl H0)
  · have hy : y < 0 ∨ 216 ≤ y := h.elim (fun t => absurd t hx) id
    have hx1 : ¬ x < 0 := fun t => hx (Or.inl t)
    have hx2 : ¬ 216 ≤ x := fun t => hx (Or.inr t)
    exact br_f hx1 (br_f hx2 (br_f (by decide) (lf_cell0 hy (br_t rfl H0))))
theorem lf_in67 {post : Int32 → Prop} {c l h : Nat} (hc : c < 216) (hl : l < 216) (hh : h < 216) (p q : Bool) (H : post (lf_b (p && q && lf_iv (l / 36) (h / 36) (c / 36)))) : wX_inBox_67 post (nI c) (nI l) (nI h) (lf_b p) (lf_b q) := by
  cases p
  · exact br_t rfl H
  · cases q
    · exact br_f (by decide) (br_t rfl H)
    · have H' : post (lf_b (lf_iv (l / 36) (h / 36) (c / 36))) := H
      refine br_f (by decide) (br_f (by decide) ⟨by decide, by decide, ?_⟩)
      refine pk_lt (c / 36) (l / 36) (fun z => ?_) (fun z => ⟨by decide, by decide, ?_⟩) (lf_d36 hc) (lf_d36 hl)
      · rw [lf_iv_lo z] at H'
        exact H'
      · refine pk_lt (h / 36) (c / 36) (fun t => ?_) (fun t => ?_) (lf_d36 hh) (lf_d36 hc)
        · rw [lf_iv_hi t] at H'
          exact H'
        · rw [lf_iv_in z t] at H'
          exact H'
theorem lf_in27 {post : Int32 → Prop} {c l h : Nat} (hc : c < 216) (hl : l < 216) (hh : h < 216) (p : Bool) (H : post (lf_b (p && lf_iv (l / 6 % 6) (h / 6 % 6) (c / 6 % 6) && lf_iv (l / 36) (h / 36) (c / 36)))) : wX_inBox_27 post (nI c) (nI l) (nI h) (lf_b p) := by
  refine ⟨by decide, by decide, by decide, by decide, ?_⟩
  refine pk_lt (c / 6 % 6) (l / 6 % 6) (fun z => ?_) (fun z => ⟨by decide, by decide, by decide, by decide, ?_⟩) (lf_d6 hc) (lf_d6 hl)
  · rw [lf_iv_lo z] at H
    exact lf_in67 hc hl hh p false H
  · refine pk_lt (h / 6 % 6) (c / 6 % 6) (fun t => ?_) (fun t => ?_) (lf_d6 hh) (lf_d6 hc)
    · rw [lf_iv_hi t] at H
      exact lf_in67 hc hl hh p false H
    · rw [lf_iv_in z t] at H
      exact lf_in67 hc hl hh p true H
theorem lf_inBox {post : Int32 → Prop} {u : St0} {c l h : Nat} (hc : c < 216) (hl : l < 216) (hh : h < 216) (H : post (lf_b (lf_in l h c))) : wpX_inBox post u (nI c) (nI l) (nI h) := by
  unfold lf_in at H
  refine ⟨by decide, by decide, ?_⟩
  refine pk_lt (c % 6) (l % 6) (fun z => ?_) (fun z => ⟨by decide, by decide, ?_⟩) (lf_m6 hc) (lf_m6 hl)
  · rw [lf_iv_lo z] at H
    exact lf_in27 hc hl hh false H
  · refine pk_lt (h % 6) (c % 6) (fun t => ?_) (fun t => ?_) (lf_m6 hh) (lf_m6 hc)
    · rw [lf_iv_hi t] at H
      exact lf_in27 hc hl hh false H
    · rw [lf_iv_in z t] at H
      exact lf_in27 hc hl hh true H
theorem lf_wl67 {post : Int32 → Prop} {c l h : Nat} (hc : c < 216) (hl : l < 216) (hh : h < 216) (p q : Bool) (H : post (lf_b (p || q || lf_ed (l / 36) (h / 36) (c / 36)))) : wX_onWall_67 post (nI c) (nI l) (nI h) (lf_b p) (lf_b q) := by
  cases p
  · cases q
    · have H' : post (lf_b (lf_ed (l / 36) (h / 36) (c / 36))) := H
      refine br_t rfl (br_t rfl ⟨by decide, by decide, ?_⟩)
      refine pk_eq (c / 36) (l / 36) (fun z => ?_) (fun z => ⟨by decide, by decide, ?_⟩) (lf_d36 hc) (lf_d36 hl)
      · rw [lf_ed_l z] at H'
        exact H'
      · refine pk_eq (c / 36) (h / 36) (fun t => ?_) (fun t => ?_) (lf_d36 hc) (lf_d36 hh)
        · rw [lf_ed_h t] at H'
          exact H'
        · rw [lf_ed_n z t] at H'
          exact H'
    · exact br_t rfl (br_f (by decide) H)
  · exact br_f (by decide) H
theorem lf_wl27 {post : Int32 → Prop} {c l h : Nat} (hc : c < 216) (hl : l < 216) (hh : h < 216) (p : Bool) (H : post (lf_b (p || lf_ed (l / 6 % 6) (h / 6 % 6) (c / 6 % 6) || lf_ed (l / 36) (h / 36) (c / 36)))) : wX_onWall_27 post (nI c) (nI l) (nI h) (lf_b p) := by
  refine ⟨by decide, by decide, by decide, by decide, ?_⟩
  refine pk_eq (c / 6 % 6) (l / 6 % 6) (fun z => ?_) (fun z => ⟨by decide, by decide, by decide, by decide, ?_⟩) (lf_d6 hc) (lf_d6 hl)
  · rw [lf_ed_l z] at H
    exact lf_wl67 hc hl hh p true H
  · refine pk_eq (c / 6 % 6) (h / 6 % 6) (fun t => ?_) (fun t => ?_) (lf_d6 hc) (lf_d6 hh)
    · rw [lf_ed_h t] at H
      exact lf_wl67 hc hl hh p true H
    · rw [lf_ed_n z t] at H
      exact lf_wl67 hc hl hh p false H
theorem lf_onWall {post : Int32 → Prop} {u : St0} {c l h : Nat} (hc : c < 216) (hl : l < 216) (hh : h < 216) (H : post (lf_b (lf_wl l h c))) : wpX_onWall post u (nI c) (nI l) (nI h) := by
  unfold lf_wl at H
  refine ⟨by decide, by decide, ?_⟩
  refine pk_eq (c % 6) (l % 6) (fun z => ?_) (fun z => ⟨by decide, by decide, ?_⟩) (lf_m6 hc) (lf_m6 hl)
  · rw [lf_ed_l z] at H
    exact lf_wl27 hc hl hh true H
  · refine pk_eq (c % 6) (h % 6) (fun t => ?_) (fun t => ?_) (lf_m6 hc) (lf_m6 hh)
    · rw [lf_ed_h t] at H
      exact lf_wl27 hc hl hh true H
    · rw [lf_ed_n z t] at H
      exact lf_wl27 hc hl hh false H
end
section
theorem lf_ac {B : Nat → Bool} {x : Int32} {c : Nat} (hx : x = nI c) (hc : c < 2 ^ 31) : lf_a B x.toNatClampNeg = lf_b (B c) := by
  rw [hx, nI_clamp hc]
  rfl
/-- a cell that is set: P picks it, and it was otherwise -/
def lf_ch (P B : Nat → Bool) (f : Bool) (c : Nat) : Nat := lf_n (P c && (B c != f))
def lf_F (P B0 : Nat → Bool) (f : Bool) (B : Nat → Bool) (i : Nat) : Prop := (∀ c, c < i → P c = true → B c = f) ∧ (∀ c, c < 216 → (P c = false ∨ i ≤ c) → B c = B0 c)
theorem lf_F_0 (P B : Nat → Bool) (f : Bool) : lf_F P B f B 0 := ⟨fun c hc => absurd hc (by omega), fun _ _ _ => rfl⟩
theorem lf_F_skip {P B0 B : Nat → Bool} {f : Bool} {i : Nat} (h : lf_F P B0 f B i) (hi : i < 216) (hs : P i = true → B0 i = f) : lf_F P B0 f B (i + 1) := by
  refine ⟨fun c hc hp => ?_, fun c hc hp => h.2 c hc (hp.elim Or.inl (fun t => Or.inr (by omega)))⟩
  by_cases e : c = i
  · subst e
    rw [h.2 c hi (Or.inr (Nat.le_refl c)), hs hp]
  · exact h.1 c (by omega) hp
theorem lf_F_set {P B0 B : Nat → Bool} {f : Bool} {i : Nat} (h : lf_F P B0 f B i) (hp : P i = true) : lf_F P B0 f (lf_up B i f) (i + 1) := by
  refine ⟨fun c hc hq => ?_, fun c hc hq => ?_⟩
  · by_cases e : c = i
    · rw [e, lf_up_s]
    · rw [lf_up_n e]
      exact h.1 c (by omega) hq
  · have e : c ≠ i := fun e => by
      subst e
      rcases hq with t | t
      · rw [hp] at t
        exact absurd t (by decide)
      · omega
    rw [lf_up_n e]
    exact h.2 c hc (hq.elim Or.inl (fun t => Or.inr (by omega)))
theorem lf_F_end {P B0 B : Nat → Bool} {f : Bool} (h : lf_F P B0 f B 216) : (∀ c, c < 216 → P c = true → B c = f) ∧ (∀ c, c < 216 → P c = false → B c = B0 c) := ⟨h.1, fun c hc hp => h.2 c hc (Or.inl hp)⟩
theorem lf_F_at {P B0 B : Nat → Bool} {f : Bool} {i : Nat} (h : lf_F P B0 f B i) (hi : i < 216) : B i = B0 i := h.2 i hi (Or.inr (Nat.le_refl i))
theorem lf_ch0 {P B : Nat → Bool} {f : Bool} {c : Nat} (h : P c = true → B c = f) : lf_ch P B f c = 0 := by
  unfold lf_ch
  cases hp : P c
  · rfl
  · rw [h hp]
    cases f <;> rfl
theorem lf_ch1 {P B : Nat → Bool} {f : Bool} {c : Nat} (hp : P c = true) (h : ¬ B c = f) : lf_ch P B f c = 1 := by
  unfold lf_ch
  rw [hp]
  cases hb : B c <;> cases f <;> first | rfl | exact absurd hb h
theorem lf_flag {x : Int32} {A B : Prop} {f : Bool} (hf : x = 0 ↔ f = false) (h0 : f = false → A) (h1 : f = true → B) : (x = 0 → A) ∧ (¬ x = 0 → B) := by
  cases f
  · exact br_t (hf.mpr rfl) (h0 rfl)
  · exact br_f (fun e => absurd (hf.mp e) (by decide)) (h1 rfl)
theorem lf_fill50 {post : Int32 → St2 → Prop} {J : Int32 → Int32 → Int32 → (Nat → Int32) → (Nat → Int32) → (Nat → Int32) → (Nat → Int32) → (Nat → Int32) → (Nat → Int32) → (Nat → Int32) → (Nat → Int32) → (Nat → Int32) → Prop}
    {x1 x2 x3 w : Int32} {i k : Nat} {f : Bool} {B V : Nat → Bool} {a2 a4 a5 a6 a7 a8 a9 : Nat → Int32} (hi : i < 216) (hf : x3 = 0 ↔ f = false) (hV : lf_see B V)
    (H0 : B i = f → J (nI k) (nI (i + 1)) w (lf_a B) a2 (lf_a V) a4 a5 a6 a7 a8 a9)
    (H1 : ¬ B i = f → ∀ w V a4 a5 a6 a7, lf_see (lf_up B i f) V → J (nI (k + 1)) (nI (i + 1)) w (lf_a (lf_up B i f)) a2 (lf_a V) a4 a5 a6 a7 a8 a9) :
    wX_fill_50 post J x1 x2 x3 (nI k) (nI i) (lf_b f) (lf_a B (nI i).toNatClampNeg) w (lf_a B) a2 (lf_a V) a4 a5 a6 a7 a8 a9 := by
  rw [lf_ac rfl (by omega)]
  refine br_c (fun e => nm_r (nI_1 i) (H0 (lf_binj.mp e))) (fun e => ?_)
  have hn : ¬ B i = f := fun t => e (by rw [t])
  have key : wX_fill_65 post J x1 x2 x3 (nI k) (nI i) (lf_b f) (nI i) w (lf_a B) a2 (lf_a V) a4 a5 a6 a7 a8 a9 :=
    lf_change rfl rfl hi hV hn (fun w V a4 a5 a6 a7 h => nm_r (nI_1 k) (nm_r (nI_1 i) (H1 hn w V a4 a5 a6 a7 h)))
  refine lf_flag hf (fun t => ?_) (fun t => ?_)
  · subst t
    exact key
  · subst t
    exact key
theorem lf_fill16 {post : Int32 → St2 → Prop} {x3 w : Int32} {l h : Nat} {f : Bool} {B0 V : Nat → Bool} {a2 a4 a5 a6 a7 a8 a9 : Nat → Int32} (hl : l < 216) (hh : h < 216) (hf : x3 = 0 ↔ f = false) (hV : lf_see B0 V)
    (H : ∀ w B V a4 a5 a6 a7, lf_see B V → (∀ c, c < 216 → lf_in l h c = true → B c = f) → (∀ c, c < 216 → lf_in l h c = false → B c = B0 c) → post (nI (lf_s (lf_ch (lf_in l h) B0 f) 216)) (w, lf_a B, a2, lf_a V, a4, a5, a6, a7, a8, a9)) :
    ∃ n, wX_fill_16 post (nI l) (nI h) x3 n 0 0 w (lf_a B0) a2 (lf_a V) a4 a5 a6 a7 a8 a9 := by
  refine pk_loop (σ := Int32 × (Nat → Bool) × (Nat → Bool) × (Nat → Int32) × (Nat → Int32) × (Nat → Int32) × (Nat → Int32)) (fun n i s => wX_fill_16 post (nI l) (nI h) x3 n (nI (lf_s (lf_ch (lf_in l h) B0 f) i)) (nI i) s.1 (lf_a s.2.1) a2 (lf_a s.2.2.1) s.2.2.2.1 s.2.2.2.2.1 s.2.2.2.2.2.1 s.2.2.2.2.2.2 a8 a9) (fun i s => lf_see s.2.1 s.2.2.1 ∧ lf_F (lf_in l h) B0 f s.2.1 i) 216 0 (w, B0, V, a4, a5, a6, a7) (by omega) ⟨hV, lf_F_0 _ _ _⟩ ?_ ?_
  · intro n s hs
    obtain ⟨w, B, V, a4, a5, a6, a7⟩ := s
    have e := lf_F_end hs.2
    exact pk_le 216 216 (fun _ => H w B V a4 a5 a6 a7 hs.1 e.1 e.2) (fun z => absurd z (by omega))
  · intro n i s hi hs hw
    obtain ⟨w, B, V, a4, a5, a6, a7⟩ := s
    have hV : lf_see B V := hs.1
    have hF : lf_F (lf_in l h) B0 f B i := hs.2
    have hw' : ∀ w B V a4 a5 a6 a7, lf_see B V → lf_F (lf_in l h) B0 f B (i + 1) → wX_fill_16 post (nI l) (nI h) x3 n (nI (lf_s (lf_ch (lf_in l h) B0 f) i + lf_ch (lf_in l h) B0 f i)) (nI (i + 1)) w (lf_a B) a2 (lf_a V) a4 a5 a6 a7 a8 a9 := fun w B V a4 a5 a6 a7 h1 h2 => hw (w, B, V, a4, a5, a6, a7) ⟨h1, h2⟩
    clear hw hs
    refine pk_le 216 i (fun z => absurd z (by omega)) (fun _ => lf_inBox hi hl hh (lf_br (lf_in l h i) (fun e => ?_) (fun e => ⟨pk_in i 216 hi, ?_⟩)))
    · have hs : lf_in l h i = true → B0 i = f := fun t => by rw [e] at t; exact absurd t (by decide)
      have t := hw' w B V a4 a5 a6 a7 hV (lf_F_skip hF hi hs)
      rw [lf_ch0 hs] at t
      exact nm_r (nI_1 i) t
    · have key : wX_fill_50 post (wX_fill_16 post (nI l) (nI h) x3 n) (nI l) (nI h) x3 (nI (lf_s (lf_ch (lf_in l h) B0 f) i)) (nI i) (lf_b f) (lf_a B (nI i).toNatClampNeg) w (lf_a B) a2 (lf_a V) a4 a5 a6 a7 a8 a9 := by
        refine lf_fill50 hi hf hV (fun eb => ?_) (fun eb w V a4 a5 a6 a7 h1 => ?_)
        · rw [lf_F_at hF hi] at eb
          have t := hw' w B V a4 a5 a6 a7 hV (lf_F_skip hF hi (fun _ => eb))
          rw [lf_ch0 (fun _ => eb)] at t
          exact t
        · rw [lf_F_at hF hi] at eb
          have t := hw' w (lf_up B i f) V a4 a5 a6 a7 h1 (lf_F_set hF e)
          rw [lf_ch1 e eb] at t
          exact t
      refine lf_flag hf (fun t => ?_) (fun t => ?_)
      · subst t
        exact key
      · subst t
        exact key
theorem lf_fill {post : Int32 → St2 → Prop} {x3 w : Int32} {l h : Nat} {f : Bool} {B0 V : Nat → Bool} {a2 a4 a5 a6 a7 a8 a9 : Nat → Int32} (hl : l < 216) (hh : h < 216) (hg : lf_good l h) (hf : x3 = 0 ↔ f = false) (hV : lf_see B0 V)
    (H : ∀ w B V a4 a5 a6 a7, lf_see B V → (∀ c, c < 216 → lf_in l h c = true → B c = f) → (∀ c, c < 216 → lf_in l h c = false → B c = B0 c) → post (nI (lf_s (lf_ch (lf_in l h) B0 f) 216)) (w, lf_a B, a2, lf_a V, a4, a5, a6, a7, a8, a9)) :
    wpX_fill post (w, lf_a B0, a2, lf_a V, a4, a5, a6, a7, a8, a9) (nI l) (nI h) x3 := by
  unfold wpX_fill
  dsimp only
  exact lf_box hl hh (fun t => absurd hg t) (fun _ => br_f (by decide) (lf_fill16 hl hh hf hV H))
theorem lf_shell15 {post : Int32 → St2 → Prop} {w : Int32} {l h : Nat} {B0 V : Nat → Bool} {a2 a4 a5 a6 a7 a8 a9 : Nat → Int32} (hl : l < 216) (hh : h < 216) (hV : lf_see B0 V)
    (H : ∀ w B V a4 a5 a6 a7, lf_see B V → (∀ c, c < 216 → (lf_in l h c && lf_wl l h c) = true → B c = true) → (∀ c, c < 216 → (lf_in l h c && lf_wl l h c) = false → B c = B0 c) → post (nI (lf_s (lf_ch (fun c => lf_in l h c && lf_wl l h c) B0 true) 216)) (w, lf_a B, a2, lf_a V, a4, a5, a6, a7, a8, a9)) :
    ∃ n, wX_shell_15 post (nI l) (nI h) n 0 0 w (lf_a B0) a2 (lf_a V) a4 a5 a6 a7 a8 a9 := by
  refine pk_loop (σ := Int32 × (Nat → Bool) × (Nat → Bool) × (Nat → Int32) × (Nat → Int32) × (Nat → Int32) × (Nat → Int32)) (fun n i s => wX_shell_15 post (nI l) (nI h) n (nI (lf_s (lf_ch (fun c => lf_in l h c && lf_wl l h c) B0 true) i)) (nI i) s.1 (lf_a s.2.1) a2 (lf_a s.2.2.1) s.2.2.2.1 s.2.2.2.2.1 s.2.2.2.2.2.1 s.2.2.2.2.2.2 a8 a9) (fun i s => lf_see s.2.1 s.2.2.1 ∧ lf_F (fun c => lf_in l h c && lf_wl l h c) B0 true s.2.1 i) 216 0 (w, B0, V, a4, a5, a6, a7) (by omega) ⟨hV, lf_F_0 _ _ _⟩ ?_ ?_
  · intro n s hs
    obtain ⟨w, B, V, a4, a5, a6, a7⟩ := s
    have e := lf_F_end hs.2
    exact pk_le 216 216 (fun _ => H w B V a4 a5 a6 a7 hs.1 e.1 e.2) (fun z => absurd z (by omega))
  · intro n i s hi hs hw
    obtain ⟨w, B, V, a4, a5, a6, a7⟩ := s
    have hV : lf_see B V := hs.1
    have hF : lf_F (fun c => lf_in l h c && lf_wl l h c) B0 true B i := hs.2
    have hw' : ∀ w B V a4 a5 a6 a7, lf_see B V → lf_F (fun c => lf_in l h c && lf_wl l h c) B0 true B (i + 1) → wX_shell_15 post (nI l) (nI h) n (nI (lf_s (lf_ch (fun c => lf_in l h c && lf_wl l h c) B0 true) i + lf_ch (fun c => lf_in l h c && lf_wl l h c) B0 true i)) (nI (i + 1)) w (lf_a B) a2 (lf_a V) a4 a5 a6 a7 a8 a9 := fun w B V a4 a5 a6 a7 h1 h2 => hw (w, B, V, a4, a5, a6, a7) ⟨h1, h2⟩
    clear hw hs
    have skip : ((fun c => lf_in l h c && lf_wl l h c) i = true → B0 i = true) → wX_shell_15 post (nI l) (nI h) n (nI (lf_s (lf_ch (fun c => lf_in l h c && lf_wl l h c) B0 true) i)) (nI (i + 1)) w (lf_a B) a2 (lf_a V) a4 a5 a6 a7 a8 a9 := fun hs => by
      have t := hw' w B V a4 a5 a6 a7 hV (lf_F_skip hF hi hs)
      rw [lf_ch0 hs] at t
      exact t
    refine pk_le 216 i (fun z => absurd z (by omega)) (fun _ => lf_inBox hi hl hh (lf_br (lf_in l h i) (fun e => nm_r (nI_1 i) (skip ?_)) (fun e => lf_onWall hi hl hh (lf_br (lf_wl l h i) (fun e2 => nm_r (nI_1 i) (skip ?_)) (fun e2 => ⟨pk_in i 216 hi, ?_⟩)))))
    · intro t
      dsimp only at t
      rw [e, Bool.false_and] at t
      exact absurd t (by decide)
    · intro t
      dsimp only at t
      rw [e, e2] at t
      exact absurd t (by decide)
    · have hp : (fun c => lf_in l h c && lf_wl l h c) i = true := by
        dsimp only
        rw [e, e2]
        rfl
      refine lf_br (B i) (fun eb => ?_) (fun eb => nm_r (nI_1 i) (skip (fun _ => ?_))) (lf_ac rfl (by omega))
      · have hn : ¬ B i = true := fun t => by rw [eb] at t; exact absurd t (by decide)
        refine lf_change (v := true) rfl rfl hi hV hn (fun w V a4 a5 a6 a7 h1 => nm_r (nI_1 _) (nm_r (nI_1 i) ?_))
        have t := hw' w (lf_up B i true) V a4 a5 a6 a7 h1 (lf_F_set hF hp)
        rw [lf_F_at hF hi] at hn
        rw [lf_ch1 hp hn] at t
        exact t
      · rw [lf_F_at hF hi] at eb
        exact eb
theorem lf_shell {post : Int32 → St2 → Prop} {w : Int32} {l h : Nat} {B0 V : Nat → Bool} {a2 a4 a5 a6 a7 a8 a9 : Nat → Int32} (hl : l < 216) (hh : h < 216) (hg : lf_good l h) (hV : lf_see B0 V)
    (H : ∀ w B V a4 a5 a6 a7, lf_see B V → (∀ c, c < 216 → (lf_in l h c && lf_wl l h c) = true → B c = true) → (∀ c, c < 216 → (lf_in l h c && lf_wl l h c) = false → B c = B0 c) → post (nI (lf_s (lf_ch (fun c => lf_in l h c && lf_wl l h c) B0 true) 216)) (w, lf_a B, a2, lf_a V, a4, a5, a6, a7, a8, a9)) :
    wpX_shell post (w, lf_a B0, a2, lf_a V, a4, a5, a6, a7, a8, a9) (nI l) (nI h) := by
  unfold wpX_shell
  dsimp only
  exact lf_box hl hh (fun t => absurd hg t) (fun _ => br_f (by decide) (lf_shell15 hl hh hV H))
theorem lf_open {post : Int32 → Prop} {w : Int32} {V : Nat → Bool} {a1 a2 a4 a5 a6 a7 a8 a9 : Nat → Int32} (H : post (nI (lf_s (fun c => lf_n (V c)) 216))) : wpX_open post (w, a1, a2, lf_a V, a4, a5, a6, a7, a8, a9) := by
  unfold wpX_open
  dsimp only
  refine pk_loop (σ := Unit) (fun n i _ => wX_open_4 post w a1 a2 (lf_a V) a4 a5 a6 a7 a8 a9 n (nI (lf_s (fun c => lf_n (V c)) i)) (nI i)) (fun _ _ => True) 216 0 () (by omega) trivial ?_ ?_
  · intro n _ _
    exact pk_le 216 216 (fun _ => H) (fun z => absurd z (by omega))
  · intro n i _ hi _ hw
    have t : wX_open_4 post w a1 a2 (lf_a V) a4 a5 a6 a7 a8 a9 n (nI (lf_s (fun c => lf_n (V c)) i + lf_n (V i))) (nI (i + 1)) := hw () trivial
    refine pk_le 216 i (fun z => absurd z (by omega)) (fun _ => ⟨pk_in i 216 hi, lf_br (V i) (fun e => nm_r (Int32.add_zero _) (nm_r (nI_1 i) ?_)) (fun e => nm_r (nI_1 _) (nm_r (nI_1 i) ?_)) (lf_ac rfl (by omega))⟩)
    · rw [e] at t
      exact t
    · rw [e] at t
      exact t
/-- the bare faces of a cell -/
def lf_fc (B : Nat → Bool) (c w : Nat) : Nat := match lf_nb c w with
  | none => 1
  | some d => lf_n (!B d)
def lf_fs (B : Nat → Bool) (c : Nat) : Nat := lf_n (B c) * lf_s (lf_fc B c) 6
theorem lf_fc0 {B : Nat → Bool} {c w : Nat} (h : lf_nb c w = none) : lf_fc B c w = 1 := by
  unfold lf_fc
  rw [h]
theorem lf_fc1 {B : Nat → Bool} {c w d : Nat} (h : lf_nb c w = some d) : lf_fc B c w = lf_n (!B d) := by
  unfold lf_fc
  rw [h]
theorem lf_faces13 {post : Int32 → Prop} {J : Int32 → Int32 → Prop} {w : Int32} {c k : Nat} {B : Nat → Bool} {a2 a3 a4 a5 a6 a7 a8 a9 : Nat → Int32} (hc : c < 216) (HJ : J (nI (k + lf_fs B c)) (nI (c + 1))) :
    ∃ n, wX_faces_13 post J (nI c) w (lf_a B) a2 a3 a4 a5 a6 a7 a8 a9 n (nI k) 0 := by
  cases hb : B c
  · have e : lf_fs B c = 0 := by
      unfold lf_fs
      rw [hb]
      exact Nat.zero_mul _
    rw [e] at HJ
    refine ⟨1, pk_le 6 0 (fun z => absurd z (by omega)) (fun _ => ⟨pk_in c 216 hc, br_t ?_ (nm_r (nI_1 c) HJ)⟩)⟩
    rw [lf_ac rfl (by omega), hb]
    rfl
  · have e : lf_fs B c = lf_s (lf_fc B c) 6 := by
      unfold lf_fs
      rw [hb]
      exact Nat.one_mul _
    rw [e] at HJ
    refine pk_loop (σ := Unit) (fun n i _ => wX_faces_13 post J (nI c) w (lf_a B) a2 a3 a4 a5 a6 a7 a8 a9 n (nI (k + lf_s (lf_fc B c) i)) (nI i)) (fun _ _ => True) 6 0 () (by omega) trivial ?_ ?_
    · intro n _ _
      exact pk_le 6 6 (fun _ => nm_r (nI_1 c) HJ) (fun z => absurd z (by omega))
    · intro n i _ hi _ hw
      have t : wX_faces_13 post J (nI c) w (lf_a B) a2 a3 a4 a5 a6 a7 a8 a9 n (nI (k + lf_s (lf_fc B c) i + lf_fc B c i)) (nI (i + 1)) := by
        rw [Nat.add_assoc]
        exact hw () trivial
      refine pk_le 6 i (fun z => absurd z (by omega)) (fun _ => ⟨pk_in c 216 hc, br_f ?_ (lf_nbr rfl rfl hc hi (fun e => ?_) (fun d hd e => ?_))⟩)
      · rw [lf_ac rfl (by omega), hb]
        decide
      · rw [lf_fc0 e] at t
        exact br_t rfl (nm_r (nI_1 _) (nm_r (nI_1 i) t))
      · rw [lf_fc1 e] at t
        refine br_f (lf_ne1 hd) ⟨pk_in d 216 hd, lf_br (B d) (fun eb => nm_r (nI_1 _) (nm_r (nI_1 i) ?_)) (fun eb => nm_r (Int32.add_zero _) (nm_r (nI_1 i) ?_)) (lf_ac rfl (by omega))⟩
        · rw [eb] at t
          exact t
        · rw [eb] at t
          exact t
theorem lf_faces {post : Int32 → Prop} {w : Int32} {B : Nat → Bool} {a2 a3 a4 a5 a6 a7 a8 a9 : Nat → Int32} (H : post (nI (lf_s (lf_fs B) 216))) : wpX_faces post (w, lf_a B, a2, a3, a4, a5, a6, a7, a8, a9) := by
  unfold wpX_faces
  dsimp only
  refine pk_loop (σ := Unit) (fun n i _ => wX_faces_4 post w (lf_a B) a2 a3 a4 a5 a6 a7 a8 a9 n (nI (lf_s (lf_fs B) i)) (nI i)) (fun _ _ => True) 216 0 () (by omega) trivial ?_ ?_
  · intro n _ _
    exact pk_le 216 216 (fun _ => H) (fun z => absurd z (by omega))
  · intro n i _ hi _ hw
    exact pk_le 216 i (fun z => absurd z (by omega)) (fun _ => lf_faces13 hi (hw () trivial))
theorem lf_solid {post : Int32 → Prop} {w : Int32} {c : Nat} {B : Nat → Bool} {a2 a3 a4 a5 a6 a7 a8 a9 : Nat → Int32} (hc : c < 216) (H : post (lf_b (B c))) : wpX_isSolid post (w, lf_a B, a2, a3, a4, a5, a6, a7, a8, a9) (nI c) := by
  unfold wpX_isSolid
  dsimp only
  refine lf_cell1 rfl hc (br_f (by decide) ⟨pk_in c 216 hc, lf_br (B c) (fun e => ?_) (fun e => ?_) (lf_ac rfl (by omega))⟩)
  · rw [e] at H
    exact H
  · rw [e] at H
    exact H
theorem lf_solid0 {post : Int32 → Prop} {w x : Int32} {a1 a2 a3 a4 a5 a6 a7 a8 a9 : Nat → Int32} (hx : x < 0 ∨ 216 ≤ x) (H : post (-1)) : wpX_isSolid post (w, a1, a2, a3, a4, a5, a6, a7, a8, a9) x := by
  unfold wpX_isSolid
  dsimp only
  exact lf_cell0 hx (br_t rfl H)
end
section
/-- c is reached from p over places that S doesn't hold -/
def lf_R (S : Nat → Bool) (p c : Nat) : Prop := ∀ Q : Nat → Prop, Q p → (∀ a d w, a < 216 → d < 216 → w < 6 → Q a → lf_nb a w = some d → S d = false → Q d) → Q c
theorem lf_R_0 (S : Nat → Bool) (p : Nat) : lf_R S p p := fun _ h _ => h
theorem lf_R_s {S : Nat → Bool} {p a d w : Nat} (h : lf_R S p a) (ha : a < 216) (hd : d < 216) (hw : w < 6) (e : lf_nb a w = some d) (hs : S d = false) : lf_R S p d := fun Q h0 h1 => h1 a d w ha hd hw (h Q h0 h1) e hs
def lf_un (S : Nat → Bool) : Nat := lf_s (fun c => lf_n (!S c)) 216
theorem lf_un_le (S : Nat → Bool) : lf_un S ≤ 216 := lf_s_le (fun j _ => lf_n1 _)
theorem lf_un_up {S : Nat → Bool} {d : Nat} (hd : d < 216) (hs : S d = false) : lf_un (lf_up S d true) + 1 = lf_un S := by
  have e := lf_s_pt (f := fun c => lf_n (!lf_up S d true c)) (g := fun c => lf_n (!S c)) hd (fun j hj => by
    rw [lf_up_n hj])
  rw [lf_up_s, hs] at e
  exact e
theorem lf_up_mono {T : Nat → Bool} {d q : Nat} (h : T q = true) : lf_up T d true q = true := by
  by_cases e : q = d
  · rw [e, lf_up_s]
  · rw [lf_up_n e]
    exact h
/-- all neighbours of q are held -/
def lf_cl (T : Nat → Bool) (q : Nat) : Prop := ∀ w d, w < 6 → lf_nb q w = some d → T d = true
def lf_I (S : Nat → Bool) (p st k : Nat) (T : Nat → Bool) (a6 : Nat → Int32) (E : Nat → Prop) : Prop :=
  st + k + lf_un T ≤ 216 ∧ (∀ j, j < k → ∃ q, q < 216 ∧ a6 j = nI q ∧ lf_R S p q) ∧ (∀ c, S c = true → T c = true) ∧ T p = true ∧ (∀ c, c < 216 → T c = true → S c = true ∨ lf_R S p c) ∧ (∀ c, c < 216 → T c = true → S c = true ∨ (∃ j, j < k ∧ a6 j = nI c) ∨ E c ∨ lf_cl T c)
theorem lf_I_push {S T : Nat → Bool} {p st k d : Nat} {a6 : Nat → Int32} {E : Nat → Prop} (h : lf_I S p st k T a6 E) (hR : lf_R S p d) (hd : d < 216) (ht : T d = false) : k < 216 ∧ lf_I S p st (k + 1) (lf_up T d true) (upd a6 k (nI d)) E := by
  obtain ⟨h1, h2, h3, h4, h5, h6⟩ := h
  have hu := lf_un_up hd ht
  refine ⟨by omega, by omega, fun j hj => ?_, fun c hc => lf_up_mono (h3 c hc), lf_up_mono h4, fun c hc hT => ?_, fun c hc hT => ?_⟩
  · by_cases e : j = k
    · exact ⟨d, hd, by rw [e, pk_us], hR⟩
    · rw [pk_un e]
      exact h2 j (by omega)
  · by_cases e : c = d
    · rw [e]
      exact Or.inr hR
    · rw [lf_up_n e] at hT
      exact h5 c hc hT
  · by_cases e : c = d
    · exact Or.inr (Or.inl ⟨k, by omega, by rw [e, pk_us]⟩)
    · rw [lf_up_n e] at hT
      rcases h6 c hc hT with t | t | t | t
      · exact Or.inl t
      · obtain ⟨j, hj, ej⟩ := t
        exact Or.inr (Or.inl ⟨j, by omega, by rw [pk_un (by omega)]; exact ej⟩)
      · exact Or.inr (Or.inr (Or.inl t))
      · exact Or.inr (Or.inr (Or.inr (fun w d' hw e' => lf_up_mono (t w d' hw e'))))
theorem lf_walk58 {post : St2 → Prop} {J : Int32 → Int32 → (Nat → Int32) → (Nat → Int32) → (Nat → Int32) → (Nat → Int32) → (Nat → Int32) → (Nat → Int32) → (Nat → Int32) → (Nat → Int32) → (Nat → Int32) → Prop} {x2 : Int32} {S : Nat → Bool} {p st c : Nat} {a1 a2 a3 a4 a5 a7 a8 : Nat → Int32} (hc : c < 216) (hR : lf_R S p c)
    (HJ : ∀ k T a6, lf_I S p st k T a6 (fun _ => False) → J (x2 + 1) (nI k) a1 a2 a3 a4 a5 a6 a7 a8 (lf_a T)) {k : Nat} {T : Nat → Bool} {a6 : Nat → Int32} (h : lf_I S p st k T a6 (fun q => q = c)) :
    ∃ n, wX_walk_58 post J x2 (nI c) n 0 (nI k) a1 a2 a3 a4 a5 a6 a7 a8 (lf_a T) := by
  refine pk_loop (σ := Nat × (Nat → Bool) × (Nat → Int32)) (fun n i s => wX_walk_58 post J x2 (nI c) n (nI i) (nI s.1) a1 a2 a3 a4 a5 s.2.2 a7 a8 (lf_a s.2.1)) (fun i s => lf_I S p st s.1 s.2.1 s.2.2 (fun q => q = c) ∧ ∀ w d, w < i → lf_nb c w = some d → s.2.1 d = true) 6 0 (k, T, a6) (by omega) ⟨h, fun w d hw => absurd hw (by omega)⟩ ?_ ?_
  · intro n s hs
    obtain ⟨k, T, a6⟩ := s
    obtain ⟨⟨h1, h2, h3, h4, h5, h6⟩, h7⟩ := hs
    refine pk_le 6 6 (fun _ => nm_e (HJ k T a6 ⟨h1, h2, h3, h4, h5, fun q hq hT => ?_⟩)) (fun z => absurd z (by omega))
    rcases h6 q hq hT with t | t | t | t
    · exact Or.inl t
    · exact Or.inr (Or.inl t)
    · rw [t]
      exact Or.inr (Or.inr (Or.inr h7))
    · exact Or.inr (Or.inr (Or.inr t))
  · intro n i s hi hs hw
    obtain ⟨k, T, a6⟩ := s
    obtain ⟨hI, h7⟩ := hs
    have hI' : lf_I S p st k T a6 (fun q => q = c) := hI
    have h7' : ∀ w d, w < i → lf_nb c w = some d → T d = true := h7
    have hw' : ∀ k T a6, lf_I S p st k T a6 (fun q => q = c) → (∀ w d, w < i + 1 → lf_nb c w = some d → T d = true) → wX_walk_58 post J x2 (nI c) n (nI (i + 1)) (nI k) a1 a2 a3 a4 a5 a6 a7 a8 (lf_a T) := fun k T a6 h1 h2 => hw (k, T, a6) ⟨h1, h2⟩
    clear hw hI h7
    refine pk_le 6 i (fun z => absurd z (by omega)) (fun _ => lf_nbr rfl rfl hc hi (fun e => br_t rfl (nm_r (nI_1 i) (hw' k T a6 hI' (fun w d hw ed => ?_)))) (fun d hd e => br_f (lf_ne1 hd) ⟨pk_in d 216 hd, lf_br (T d) (fun et => ⟨pk_in d 216 hd, ?_⟩) (fun et => nm_r (nI_1 i) (hw' k T a6 hI' (fun w d' hw ed => ?_))) (lf_ac rfl (by omega))⟩))
    · by_cases ew : w = i
      · rw [ew, e] at ed
        exact absurd ed (by simp)
      · exact h7' w d (by omega) ed
    · have hRd : lf_R S p d := lf_R_s hR hc hd hi e (by
        cases hs : S d
        · rfl
        · rw [hI'.2.2.1 d hs] at et
          exact et)
      obtain ⟨hk, hP⟩ := lf_I_push hI' hRd hd et
      rw [nI_clamp (show d < 2 ^ 31 by omega), lf_up1, nI_clamp (show k < 2 ^ 31 by omega)]
      refine nm_e ⟨pk_in k 432 (by omega), nm_e (nm_r (nI_1 k) (nm_r (nI_1 i) (hw' (k + 1) _ _ hP (fun w d' hw ed => ?_))))⟩
      by_cases ew : w = i
      · rw [ew, e] at ed
        have e' : d = d' := Option.some.inj ed
        rw [← e', lf_up_s]
      · exact lf_up_mono (h7' w d' (by omega) ed)
    · by_cases ew : w = i
      · rw [ew, e] at ed
        have e' : d = d' := Option.some.inj ed
        rw [← e']
        exact et
      · exact h7' w d' (by omega) ed
theorem lf_walk21 {post : St2 → Prop} {S : Nat → Bool} {p : Nat} {a1 a2 a3 a4 a5 a7 a8 : Nat → Int32}
    (H : ∀ w T a6, (∀ c, S c = true → T c = true) → T p = true → (∀ c, c < 216 → T c = true → S c = true ∨ lf_R S p c) → (∀ c, c < 216 → T c = true → S c = true ∨ lf_cl T c) → post (w, a1, a2, a3, a4, a5, a6, a7, a8, lf_a T))
    {k : Nat} {T : Nat → Bool} {a6 : Nat → Int32} (h : lf_I S p 0 k T a6 (fun _ => False)) :
    ∃ n, wX_walk_21 post n 0 (nI k) a1 a2 a3 a4 a5 a6 a7 a8 (lf_a T) := by
  have fin : ∀ st T a6, lf_I S p st 0 T a6 (fun _ => False) → post (nI 0, a1, a2, a3, a4, a5, a6, a7, a8, lf_a T) := by
    intro st T a6 hI
    obtain ⟨h1, h2, h3, h4, h5, h6⟩ := hI
    refine H (nI 0) T a6 h3 h4 h5 (fun q hq hT => ?_)
    rcases h6 q hq hT with t | t | t | t
    · exact Or.inl t
    · obtain ⟨j, hj, _⟩ := t
      exact absurd hj (by omega)
    · exact t.elim
    · exact Or.inr t
  refine pk_loop (σ := Nat × (Nat → Bool) × (Nat → Int32)) (fun n i s => wX_walk_21 post n (nI i) (nI s.1) a1 a2 a3 a4 a5 s.2.2 a7 a8 (lf_a s.2.1)) (fun i s => lf_I S p i s.1 s.2.1 s.2.2 (fun _ => False)) 216 0 (k, T, a6) (by omega) h ?_ ?_
  · intro n s hs
    obtain ⟨k, T, a6⟩ := s
    have h0 := hs.1
    dsimp only at h0
    have e : k = 0 := by omega
    subst e
    exact pk_le 216 216 (fun _ => fin 216 T a6 hs) (fun z => absurd z (by omega))
  · intro n i s hi hs hw
    obtain ⟨k, T, a6⟩ := s
    have hs' : lf_I S p i k T a6 (fun _ => False) := hs
    have hw' : ∀ k T a6, lf_I S p (i + 1) k T a6 (fun _ => False) → wX_walk_21 post n (nI i + 1) (nI k) a1 a2 a3 a4 a5 a6 a7 a8 (lf_a T) := fun k T a6 h => by
      rw [nI_1]
      exact hw (k, T, a6) h
    clear hw hs
    rcases k with _ | m
    · exact pk_le 216 i (fun z => absurd z (by omega)) (fun _ => pk_le 0 0 (fun _ => fin i T a6 hs') (fun z => absurd z (by omega)))
    · obtain ⟨h1, h2, h3, h4, h5, h6⟩ := hs'
      have hm : m < 216 := by omega
      obtain ⟨q, hq, eq, hR⟩ := h2 m (by omega)
      have hI : lf_I S p (i + 1) m T a6 (fun t => t = q) := by
        refine ⟨by omega, fun j hj => h2 j (by omega), h3, h4, h5, fun c hc hT => ?_⟩
        rcases h6 c hc hT with t | t | t | t
        · exact Or.inl t
        · obtain ⟨j, hj, ej⟩ := t
          by_cases e : j = m
          · rw [e, eq] at ej
            exact Or.inr (Or.inr (Or.inl ((nI_eq (by omega) (by omega)).mp ej.symm)))
          · exact Or.inr (Or.inl ⟨j, by omega, ej⟩)
        · exact t.elim
        · exact Or.inr (Or.inr (Or.inr t))
      refine pk_le 216 i (fun z => absurd z (by omega)) (fun _ => pk_le (m + 1) 0 (fun z => absurd z (by omega)) (fun _ => nm_r (nI_pred m) ⟨pk_in m 432 (by omega), nm_r (e' := nI q) ?_ (lf_walk58 hq hR hw' hI)⟩))
      rw [nI_clamp (by omega)]
      exact eq
theorem lf_walk {post : St2 → Prop} {S : Nat → Bool} {w x : Int32} {p : Nat} {a1 a2 a3 a4 a5 a6 a7 a8 : Nat → Int32} (hx : x = nI p) (hp : p < 216) (hS : S p = false)
    (H : ∀ w T a6, (∀ c, S c = true → T c = true) → T p = true → (∀ c, c < 216 → T c = true → S c = true ∨ lf_R S p c) → (∀ c, c < 216 → T c = true → S c = true ∨ lf_cl T c) → post (w, a1, a2, a3, a4, a5, a6, a7, a8, lf_a T)) :
    wpX_walk post (w, a1, a2, a3, a4, a5, a6, a7, a8, lf_a S) x := by
  subst hx
  unfold wpX_walk
  dsimp only
  rw [nI_clamp (show p < 2 ^ 31 by omega), lf_up1]
  refine nm_e ⟨pk_in p 216 hp, nm_e (lf_walk21 (k := 1) H ?_)⟩
  have hu := lf_un_up hp hS
  have hl := lf_un_le S
  refine ⟨by omega, fun j hj => ?_, fun c hc => lf_up_mono hc, lf_up_s _ _ _, fun c hc hT => ?_, fun c hc hT => ?_⟩
  · have e : j = 0 := by omega
    rw [e, pk_us]
    exact ⟨p, hp, rfl, lf_R_0 S p⟩
  · by_cases e : c = p
    · rw [e]
      exact Or.inr (lf_R_0 S p)
    · rw [lf_up_n e] at hT
      exact Or.inl hT
  · by_cases e : c = p
    · exact Or.inr (Or.inl ⟨0, by omega, by rw [e, pk_us]⟩)
    · rw [lf_up_n e] at hT
      exact Or.inl hT
/-- the free cells fall into K rooms, numbered by cm: neighbours are in one room; what holds a free cell and all free neighbours of what it holds, holds that room; none is empty -/
def lf_Rm (B : Nat → Bool) (cm : Nat → Nat) (K : Nat) : Prop :=
  (∀ a d w, a < 216 → d < 216 → w < 6 → lf_nb a w = some d → B a = false → B d = false → cm d = cm a) ∧
  (∀ T : Nat → Bool, ∀ p, p < 216 → B p = false → T p = true → (∀ c, c < 216 → B c = false → T c = true → ∀ w d, w < 6 → d < 216 → lf_nb c w = some d → B d = false → T d = true) → ∀ c, c < 216 → B c = false → cm c = cm p → T c = true) ∧
  (∀ c, c < 216 → B c = false → cm c < K) ∧ (∀ k, k < K → ∃ c, c < 216 ∧ B c = false ∧ cm c = k)
theorem lf_rooms31 {post : Int32 → St2 → Prop} {w : Int32} {K : Nat} {cm : Nat → Nat} {B S : Nat → Bool} {a2 a3 a4 a5 a6 a7 a8 : Nat → Int32} (hm : lf_Rm B cm K) (hS : ∀ c, c < 216 → S c = B c)
    (H : ∀ w a6 T, post (nI K) (w, lf_a B, a2, a3, a4, a5, a6, a7, a8, lf_a T)) : ∃ n, wX_rooms_31 post n 0 0 w (lf_a B) a2 a3 a4 a5 a6 a7 a8 (lf_a S) := by
  obtain ⟨m1, m2, m3, m4⟩ := hm
  have h0 : lf_s (fun k => lf_n ((fun _ => false) k)) K = 0 := lf_s_0 (fun _ _ => rfl)
  have main : ∃ n, wX_rooms_31 post n (nI (lf_s (fun k => lf_n ((fun _ => false) k)) K)) (nI 0) w (lf_a B) a2 a3 a4 a5 a6 a7 a8 (lf_a S) := by
    refine pk_loop (σ := Int32 × (Nat → Int32) × (Nat → Bool) × (Nat → Bool)) (fun n i s => wX_rooms_31 post n (nI (lf_s (fun k => lf_n (s.2.2.2 k)) K)) (nI i) s.1 (lf_a B) a2 a3 a4 a5 s.2.1 a7 a8 (lf_a s.2.2.1)) (fun i s => (∀ c, c < 216 → (s.2.2.1 c = true ↔ B c = true ∨ s.2.2.2 (cm c) = true)) ∧ ∀ c, c < i → s.2.2.1 c = true) 216 0 (w, a6, S, fun _ => false) (by omega) ⟨fun c hc => ?_, fun c hc => absurd hc (by omega)⟩ ?_ ?_
    · dsimp only
      rw [hS c hc]
      exact ⟨Or.inl, fun o => o.elim id (fun t => absurd t (by decide))⟩
    · intro n s hs
      obtain ⟨w, a6, T, D⟩ := s
      obtain ⟨h1, h2⟩ := hs
      dsimp only at h1 h2
      have e : lf_s (fun k => lf_n (D k)) K = K := lf_s_1 (fun k hk => by
        obtain ⟨c, hc, hb, ec⟩ := m4 k hk
        rcases (h1 c hc).mp (h2 c hc) with t | t
        · rw [hb] at t
          exact absurd t (by decide)
        · rw [ec] at t
          show lf_n (D k) = 1
          rw [t]
          rfl)
      dsimp only
      rw [e]
      exact pk_le 216 216 (fun _ => H w a6 T) (fun z => absurd z (by omega))
    · intro n i s hi hs hw
      obtain ⟨w, a6, T, D⟩ := s
      obtain ⟨h1, h2⟩ := hs
      dsimp only at h1 h2
      have hw' : ∀ (w : Int32) (a6 : Nat → Int32) (T D : Nat → Bool), (∀ c, c < 216 → (T c = true ↔ B c = true ∨ D (cm c) = true)) → (∀ c, c < i + 1 → T c = true) → wX_rooms_31 post n (nI (lf_s (fun k => lf_n (D k)) K)) (nI (i + 1)) w (lf_a B) a2 a3 a4 a5 a6 a7 a8 (lf_a T) := fun w a6 T D t1 t2 => hw (w, a6, T, D) ⟨t1, t2⟩
      clear hw
      show wX_rooms_31 post (n + 1) (nI (lf_s (fun k => lf_n (D k)) K)) (nI i) w (lf_a B) a2 a3 a4 a5 a6 a7 a8 (lf_a T)
      refine pk_le 216 i (fun z => absurd z (by omega)) (fun _ => ⟨pk_in i 216 hi, lf_br (T i) (fun et => nm_r (nI_1 _) (lf_walk rfl hi et ?_)) (fun et => nm_r (nI_1 i) (hw' w a6 T D h1 (fun c hc => ?_))) (lf_ac rfl (by omega))⟩)
      · intro w' T' a6' g1 g2 g3 g4
        have hB : B i = false := by
          cases hb : B i
          · rfl
          · rw [(h1 i hi).mpr (Or.inl hb)] at et
            exact et
        have hD : D (cm i) = false := by
          cases hd : D (cm i)
          · rfl
          · rw [(h1 i hi).mpr (Or.inr hd)] at et
            exact et
        have hcl : ∀ c, c < 216 → B c = false → T' c = true → ∀ w d, w < 6 → d < 216 → lf_nb c w = some d → B d = false → T' d = true := by
          intro c hc hb ht w d hw hd e hbd
          rcases g4 c hc ht with t | t
          · rcases (h1 c hc).mp t with u | u
            · rw [hb] at u
              exact absurd u (by decide)
            · rw [← m1 c d w hc hd hw e hb hbd] at u
              exact g1 d ((h1 d hd).mpr (Or.inr u))
          · exact t w d hw e
        have hall := m2 T' i hi hB g2 hcl
        have hT : ∀ c, c < 216 → (T' c = true ↔ B c = true ∨ lf_up D (cm i) true (cm c) = true) := by
          intro c hc
          constructor
          · intro ht
            rcases g3 c hc ht with t | t
            · rcases (h1 c hc).mp t with u | u
              · exact Or.inl u
              · exact Or.inr (lf_up_mono u)
            · have q : B c = false ∧ cm c = cm i := t (fun a => B a = false ∧ cm a = cm i) ⟨hB, rfl⟩ (fun a d w ha hd hw qa e hs => by
                have hbd : B d = false := by
                  cases hb : B d
                  · rfl
                  · rw [(h1 d hd).mpr (Or.inl hb)] at hs
                    exact hs
                exact ⟨hbd, by rw [m1 a d w ha hd hw e qa.1 hbd]; exact qa.2⟩)
              rw [q.2, lf_up_s]
              exact Or.inr rfl
          · intro ht
            cases hb : B c
            · rcases ht with t | t
              · rw [hb] at t
                exact absurd t (by decide)
              · by_cases e : cm c = cm i
                · exact hall c hc hb e
                · rw [lf_up_n e] at t
                  exact g1 c ((h1 c hc).mpr (Or.inr t))
            · exact g1 c ((h1 c hc).mpr (Or.inl hb))
        have t := hw' w' a6' T' (lf_up D (cm i) true) hT (fun c hc => by
          by_cases e : c = i
          · rw [e]
            exact g2
          · exact g1 c (h2 c (by omega)))
        have e := lf_s_pt (f := fun k => lf_n (lf_up D (cm i) true k)) (g := fun k => lf_n (D k)) (m3 i hi hB) (fun j hj => by
          rw [lf_up_n hj])
        rw [lf_up_s, hD] at e
        have e' : lf_s (fun k => lf_n (lf_up D (cm i) true k)) K = lf_s (fun k => lf_n (D k)) K + 1 := e
        rw [e'] at t
        exact nm_r (nI_1 i) t
      · by_cases e : c = i
        · rw [e]
          exact et
        · exact h2 c (by omega)
  rw [h0] at main
  exact main
theorem lf_rooms {post : Int32 → St2 → Prop} {w : Int32} {K : Nat} {cm : Nat → Nat} {B S : Nat → Bool} {a2 a3 a4 a5 a6 a7 a8 : Nat → Int32} (hm : lf_Rm B cm K)
    (H : ∀ w a6 T, post (nI K) (w, lf_a B, a2, a3, a4, a5, a6, a7, a8, lf_a T)) : wpX_rooms post (w, lf_a B, a2, a3, a4, a5, a6, a7, a8, lf_a S) := by
  unfold wpX_rooms
  dsimp only
  refine pk_loop (fun n i s => wX_rooms_2 post w n (nI i) (lf_a B) a2 a3 a4 a5 a6 a7 a8 (lf_a s)) (fun i s => ∀ c, c < i → s c = B c) 216 0 S (by omega) (fun c hc => absurd hc (by omega)) ?_ ?_
  · intro n s hs
    exact pk_le 216 216 (fun _ => lf_rooms31 hm hs H) (fun z => absurd z (by omega))
  · intro n i s hi hs hw
    refine pk_le 216 i (fun z => absurd z (by omega)) (fun _ => ⟨pk_in i 216 hi, pk_in i 216 hi, nm_r (e' := lf_a (lf_up s i (B i))) ?_ (nm_r (nI_1 i) (hw _ (fun c hc => ?_)))⟩)
    · rw [lf_ac rfl (by omega), nI_clamp (by omega), lf_nar, lf_upa]
    · by_cases e : c = i
      · rw [e, lf_up_s]
      · rw [lf_up_n e]
        exact hs c (by omega)
end
section
/-- the box's three sizes -/
def lf_w (l h : Nat) : Nat := h % 6 + 1 - l % 6
def lf_d (l h : Nat) : Nat := h / 6 % 6 + 1 - l / 6 % 6
def lf_h (l h : Nat) : Nat := h / 36 + 1 - l / 36
theorem lf_iv_n : ∀ a, a < 6 → ∀ b, b < 6 → a ≤ b → lf_s (fun x => lf_n (lf_iv a b x)) 6 = b + 1 - a := by decide +kernel
theorem lf_iv_e1 : ∀ a, a < 6 → ∀ b, b < 6 → a ≤ b → lf_s (fun x => lf_n (lf_iv a b x && decide (x = a))) 6 = 1 := by decide +kernel
theorem lf_iv_e2 : ∀ a, a < 6 → ∀ b, b < 6 → a ≤ b → lf_s (fun x => lf_n (lf_iv a b x && decide (x = b))) 6 = 1 := by decide +kernel
theorem lf_iv_i : ∀ a, a < 6 → ∀ b, b < 6 → a ≤ b → lf_s (fun x => lf_n (lf_iv a b x && !lf_ed a b x)) 6 = b + 1 - a - 2 := by decide +kernel
theorem lf_iv_t : ∀ b, b < 6 → lf_s (fun x => lf_n (decide (x ≤ b))) 6 = b + 1 := by decide +kernel
theorem lf_dn1 : ∀ a, a < 6 → ∀ b, b < 6 → ∀ x, x < 6 → lf_iv a b x = true → 0 < x → lf_n (!lf_iv a b (x - 1)) = lf_n (decide (x = a)) := by decide +kernel
theorem lf_dn0 : ∀ a, a < 6 → ∀ b, b < 6 → ∀ x, x < 6 → lf_iv a b x = true → x ≤ 0 → 1 = lf_n (decide (x = a)) := by decide +kernel
theorem lf_up1' : ∀ a, a < 6 → ∀ b, b < 6 → ∀ x, x < 6 → lf_iv a b x = true → x < 5 → lf_n (!lf_iv a b (x + 1)) = lf_n (decide (x = b)) := by decide +kernel
theorem lf_up0' : ∀ a, a < 6 → ∀ b, b < 6 → ∀ x, x < 6 → lf_iv a b x = true → 5 ≤ x → 1 = lf_n (decide (x = b)) := by decide +kernel
theorem lf_prod3 (p q r : Nat → Bool) : lf_s (fun c => lf_n (p (c % 6) && q (c / 6 % 6) && r (c / 36))) 216 = lf_s (fun x => lf_n (p x)) 6 * lf_s (fun x => lf_n (q x)) 6 * lf_s (fun x => lf_n (r x)) 6 := by
  rw [← lf_s_prod (fun x => lf_n (p x)) (fun x => lf_n (q x)) (fun x => lf_n (r x))]
  exact lf_s_congr (fun c _ => by rw [lf_nand, lf_nand])
theorem lf_c_box {l h : Nat} (hl : l < 216) (hh : h < 216) (hg : lf_good l h) : lf_s (fun c => lf_n (lf_in l h c)) 216 = lf_w l h * lf_d l h * lf_h l h := by
  have e := lf_prod3 (lf_iv (l % 6) (h % 6)) (lf_iv (l / 6 % 6) (h / 6 % 6)) (lf_iv (l / 36) (h / 36))
  rw [lf_iv_n _ (by omega) _ (by omega) hg.1, lf_iv_n _ (by omega) _ (by omega) hg.2.1, lf_iv_n _ (by omega) _ (by omega) hg.2.2] at e
  exact e
theorem lf_c_inner {l h : Nat} (hl : l < 216) (hh : h < 216) (hg : lf_good l h) : lf_s (fun c => lf_n (lf_in l h c && lf_wl l h c)) 216 + (lf_w l h - 2) * (lf_d l h - 2) * (lf_h l h - 2) = lf_w l h * lf_d l h * lf_h l h := by
  have e := lf_prod3 (fun x => lf_iv (l % 6) (h % 6) x && !lf_ed (l % 6) (h % 6) x) (fun x => lf_iv (l / 6 % 6) (h / 6 % 6) x && !lf_ed (l / 6 % 6) (h / 6 % 6) x) (fun x => lf_iv (l / 36) (h / 36) x && !lf_ed (l / 36) (h / 36) x)
  rw [lf_iv_i _ (by omega) _ (by omega) hg.1, lf_iv_i _ (by omega) _ (by omega) hg.2.1, lf_iv_i _ (by omega) _ (by omega) hg.2.2] at e
  rw [← lf_c_box hl hh hg]
  unfold lf_w lf_d lf_h
  rw [← e, ← lf_s_add]
  refine lf_s_congr (fun c _ => ?_)
  unfold lf_in lf_wl
  cases lf_iv (l % 6) (h % 6) (c % 6) <;> cases lf_iv (l / 6 % 6) (h / 6 % 6) (c / 6 % 6) <;> cases lf_iv (l / 36) (h / 36) (c / 36) <;> cases lf_ed (l % 6) (h % 6) (c % 6) <;> cases lf_ed (l / 6 % 6) (h / 6 % 6) (c / 6 % 6) <;> cases lf_ed (l / 36) (h / 36) (c / 36) <;> rfl
theorem lf_see_0 {B V : Nat → Bool} (hV : lf_see B V) (hB : ∀ c, c < 216 → B c = false) : ∀ n c, c < 216 → 216 - c ≤ n → V c = true := by
  intro n
  induction n with
  | zero => exact fun c hc h => absurd h (by omega)
  | succ n ih =>
    intro c hc h
    rw [hV c hc, hB c hc]
    by_cases e : 180 ≤ c
    · rw [decide_eq_true e]
      rfl
    · rw [ih (c + 36) (by omega) (by omega), Bool.or_true]
      rfl
theorem lf_open_0 {B V : Nat → Bool} (hV : lf_see B V) (hB : ∀ c, c < 216 → B c = false) : lf_s (fun c => lf_n (V c)) 216 = 216 :=
  lf_s_1 (fun c hc => by
    rw [lf_see_0 hV hB 216 c hc (by omega)]
    rfl)
theorem lf_see_1 {B V : Nat → Bool} {l h : Nat} (hh : h < 216) (hg : lf_good l h) (hV : lf_see B V) (hB : ∀ c, c < 216 → B c = lf_in l h c) :
    ∀ n c, c < 216 → 216 - c ≤ n → V c = !(lf_iv (l % 6) (h % 6) (c % 6) && lf_iv (l / 6 % 6) (h / 6 % 6) (c / 6 % 6) && decide (c / 36 ≤ h / 36)) := by
  intro n
  induction n with
  | zero => exact fun c hc h => absurd h (by omega)
  | succ n ih =>
    intro c hc hn
    obtain ⟨g1, g2, g3⟩ := hg
    have e0 : V c = (!B c && (decide (180 ≤ c) || V (c + 36))) := hV c hc
    rw [e0, hB c hc]
    unfold lf_in
    by_cases e : 180 ≤ c
    · rw [decide_eq_true e, Bool.true_or, Bool.and_true]
      have ez : lf_iv (l / 36) (h / 36) (c / 36) = decide (c / 36 ≤ h / 36) := by
        unfold lf_iv
        rw [decide_eq_true (show l / 36 ≤ c / 36 by omega), Bool.true_and]
      rw [ez]
    · rw [decide_eq_false e, Bool.false_or, ih (c + 36) (by omega) (by omega), show (c + 36) % 6 = c % 6 by omega, show (c + 36) / 6 % 6 = c / 6 % 6 by omega, show (c + 36) / 36 = c / 36 + 1 by omega]
      by_cases t1 : c / 36 ≤ h / 36
      · rw [decide_eq_true t1]
        by_cases t2 : c / 36 + 1 ≤ h / 36
        · rw [decide_eq_true t2]
          cases lf_iv (l % 6) (h % 6) (c % 6) <;> cases lf_iv (l / 6 % 6) (h / 6 % 6) (c / 6 % 6) <;> cases lf_iv (l / 36) (h / 36) (c / 36) <;> rfl
        · rw [decide_eq_false t2, lf_iv_in (show l / 36 ≤ c / 36 by omega) t1]
          cases lf_iv (l % 6) (h % 6) (c % 6) <;> cases lf_iv (l / 6 % 6) (h / 6 % 6) (c / 6 % 6) <;> rfl
      · rw [decide_eq_false t1, decide_eq_false (show ¬ c / 36 + 1 ≤ h / 36 by omega), lf_iv_hi (show h / 36 < c / 36 by omega)]
        cases lf_iv (l % 6) (h % 6) (c % 6) <;> cases lf_iv (l / 6 % 6) (h / 6 % 6) (c / 6 % 6) <;> rfl
theorem lf_open_1 {B V : Nat → Bool} {l h : Nat} (hl : l < 216) (hh : h < 216) (hg : lf_good l h) (hV : lf_see B V) (hB : ∀ c, c < 216 → B c = lf_in l h c) :
    lf_s (fun c => lf_n (V c)) 216 + lf_w l h * lf_d l h * (h / 36 + 1) = 216 := by
  have e := lf_prod3 (lf_iv (l % 6) (h % 6)) (lf_iv (l / 6 % 6) (h / 6 % 6)) (fun z => decide (z ≤ h / 36))
  rw [lf_iv_n _ (by omega) _ (by omega) hg.1, lf_iv_n _ (by omega) _ (by omega) hg.2.1, lf_iv_t _ (by omega)] at e
  unfold lf_w lf_d
  rw [← e, ← lf_s_add]
  refine lf_s_1 (fun c hc => ?_)
  rw [lf_see_1 hh hg hV hB 216 c hc (by omega)]
  exact lf_nnot _
/-- the cells beside a cell -/
theorem lf_fc_x0 {B : Nat → Bool} {l h c : Nat} (hl : l < 216) (hh : h < 216) (hc : c < 216) (hB : ∀ c, c < 216 → B c = lf_in l h c) (ex : lf_iv (l % 6) (h % 6) (c % 6) = true) (ey : lf_iv (l / 6 % 6) (h / 6 % 6) (c / 6 % 6) = true) (ez : lf_iv (l / 36) (h / 36) (c / 36) = true) : lf_fc B c 0 = lf_n (decide (c % 6 = l % 6)) := by
  by_cases t : 0 < c % 6
  · have e : lf_nb c 0 = some (c - 1) := lf_nb_e1 0 rfl (show 0 < c / 1 % 6 by omega)
    rw [lf_fc1 e, hB (c - 1) (by omega)]
    unfold lf_in
    rw [show (c - 1) / 6 % 6 = c / 6 % 6 by omega, show (c - 1) / 36 = c / 36 by omega, show (c - 1) % 6 = c % 6 - 1 by omega, ey, ez, Bool.and_true, Bool.and_true]
    exact lf_dn1 _ (by omega) _ (by omega) _ (by omega) ex t
  · have e : lf_nb c 0 = none := lf_nb_e0 0 rfl (show ¬ 0 < c / 1 % 6 by omega)
    rw [lf_fc0 e]
    exact lf_dn0 _ (by omega) _ (by omega) _ (by omega) ex (by omega)
theorem lf_fc_x1 {B : Nat → Bool} {l h c : Nat} (hl : l < 216) (hh : h < 216) (hc : c < 216) (hB : ∀ c, c < 216 → B c = lf_in l h c) (ex : lf_iv (l % 6) (h % 6) (c % 6) = true) (ey : lf_iv (l / 6 % 6) (h / 6 % 6) (c / 6 % 6) = true) (ez : lf_iv (l / 36) (h / 36) (c / 36) = true) : lf_fc B c 1 = lf_n (decide (c % 6 = h % 6)) := by
  by_cases t : c % 6 < 5
  · have e : lf_nb c 1 = some (c + 1) := lf_nb_o1 1 (by decide) (show c / 1 % 6 < 5 by omega)
    rw [lf_fc1 e, hB (c + 1) (by omega)]
    unfold lf_in
    rw [show (c + 1) / 6 % 6 = c / 6 % 6 by omega, show (c + 1) / 36 = c / 36 by omega, show (c + 1) % 6 = c % 6 + 1 by omega, ey, ez, Bool.and_true, Bool.and_true]
    exact lf_up1' _ (by omega) _ (by omega) _ (by omega) ex t
  · have e : lf_nb c 1 = none := lf_nb_o0 1 (by decide) (show ¬ c / 1 % 6 < 5 by omega)
    rw [lf_fc0 e]
    exact lf_up0' _ (by omega) _ (by omega) _ (by omega) ex (by omega)
theorem lf_fc_y0 {B : Nat → Bool} {l h c : Nat} (hl : l < 216) (hh : h < 216) (hc : c < 216) (hB : ∀ c, c < 216 → B c = lf_in l h c) (ex : lf_iv (l % 6) (h % 6) (c % 6) = true) (ey : lf_iv (l / 6 % 6) (h / 6 % 6) (c / 6 % 6) = true) (ez : lf_iv (l / 36) (h / 36) (c / 36) = true) : lf_fc B c 2 = lf_n (decide (c / 6 % 6 = l / 6 % 6)) := by
  by_cases t : 0 < c / 6 % 6
  · have e : lf_nb c 2 = some (c - 6) := lf_nb_e1 2 rfl t
    rw [lf_fc1 e, hB (c - 6) (by omega)]
    unfold lf_in
    rw [show (c - 6) / 6 % 6 = c / 6 % 6 - 1 by omega, show (c - 6) / 36 = c / 36 by omega, show (c - 6) % 6 = c % 6 by omega, ex, ez, Bool.true_and, Bool.and_true]
    exact lf_dn1 _ (by omega) _ (by omega) _ (by omega) ey t
  · have e : lf_nb c 2 = none := lf_nb_e0 2 rfl t
    rw [lf_fc0 e]
    exact lf_dn0 _ (by omega) _ (by omega) _ (by omega) ey (by omega)
theorem lf_fc_y1 {B : Nat → Bool} {l h c : Nat} (hl : l < 216) (hh : h < 216) (hc : c < 216) (hB : ∀ c, c < 216 → B c = lf_in l h c) (ex : lf_iv (l % 6) (h % 6) (c % 6) = true) (ey : lf_iv (l / 6 % 6) (h / 6 % 6) (c / 6 % 6) = true) (ez : lf_iv (l / 36) (h / 36) (c / 36) = true) : lf_fc B c 3 = lf_n (decide (c / 6 % 6 = h / 6 % 6)) := by
  by_cases t : c / 6 % 6 < 5
  · have e : lf_nb c 3 = some (c + 6) := lf_nb_o1 3 (by decide) t
    rw [lf_fc1 e, hB (c + 6) (by omega)]
    unfold lf_in
    rw [show (c + 6) / 6 % 6 = c / 6 % 6 + 1 by omega, show (c + 6) / 36 = c / 36 by omega, show (c + 6) % 6 = c % 6 by omega, ex, ez, Bool.true_and, Bool.and_true]
    exact lf_up1' _ (by omega) _ (by omega) _ (by omega) ey t
  · have e : lf_nb c 3 = none := lf_nb_o0 3 (by decide) t
    rw [lf_fc0 e]
    exact lf_up0' _ (by omega) _ (by omega) _ (by omega) ey (by omega)
theorem lf_fc_z0 {B : Nat → Bool} {l h c : Nat} (hl : l < 216) (hh : h < 216) (hc : c < 216) (hB : ∀ c, c < 216 → B c = lf_in l h c) (ex : lf_iv (l % 6) (h % 6) (c % 6) = true) (ey : lf_iv (l / 6 % 6) (h / 6 % 6) (c / 6 % 6) = true) (ez : lf_iv (l / 36) (h / 36) (c / 36) = true) : lf_fc B c 4 = lf_n (decide (c / 36 = l / 36)) := by
  by_cases t : 0 < c / 36
  · have e : lf_nb c 4 = some (c - 36) := lf_nb_e1 4 rfl (show 0 < c / 36 % 6 by omega)
    rw [lf_fc1 e, hB (c - 36) (by omega)]
    unfold lf_in
    rw [show (c - 36) / 6 % 6 = c / 6 % 6 by omega, show (c - 36) / 36 = c / 36 - 1 by omega, show (c - 36) % 6 = c % 6 by omega, ex, ey, Bool.true_and, Bool.true_and]
    exact lf_dn1 _ (by omega) _ (by omega) _ (by omega) ez t
  · have e : lf_nb c 4 = none := lf_nb_e0 4 rfl (show ¬ 0 < c / 36 % 6 by omega)
    rw [lf_fc0 e]
    exact lf_dn0 _ (by omega) _ (by omega) _ (by omega) ez (by omega)
theorem lf_fc_z1 {B : Nat → Bool} {l h c : Nat} (hl : l < 216) (hh : h < 216) (hc : c < 216) (hB : ∀ c, c < 216 → B c = lf_in l h c) (ex : lf_iv (l % 6) (h % 6) (c % 6) = true) (ey : lf_iv (l / 6 % 6) (h / 6 % 6) (c / 6 % 6) = true) (ez : lf_iv (l / 36) (h / 36) (c / 36) = true) : lf_fc B c 5 = lf_n (decide (c / 36 = h / 36)) := by
  by_cases t : c / 36 < 5
  · have e : lf_nb c 5 = some (c + 36) := lf_nb_o1 5 (by decide) (show c / 36 % 6 < 5 by omega)
    rw [lf_fc1 e, hB (c + 36) (by omega)]
    unfold lf_in
    rw [show (c + 36) / 6 % 6 = c / 6 % 6 by omega, show (c + 36) / 36 = c / 36 + 1 by omega, show (c + 36) % 6 = c % 6 by omega, ex, ey, Bool.true_and, Bool.true_and]
    exact lf_up1' _ (by omega) _ (by omega) _ (by omega) ez t
  · have e : lf_nb c 5 = none := lf_nb_o0 5 (by decide) (show ¬ c / 36 % 6 < 5 by omega)
    rw [lf_fc0 e]
    exact lf_up0' _ (by omega) _ (by omega) _ (by omega) ez (by omega)
theorem lf_fbool (X Y Z a b c d e f : Bool) (S : Nat) (hS : X = true → Y = true → Z = true → S = lf_n a + lf_n b + lf_n c + lf_n d + lf_n e + lf_n f) :
    lf_n (X && Y && Z) * S = lf_n (X && a && Y && Z) + lf_n (X && b && Y && Z) + lf_n (X && (Y && c) && Z) + lf_n (X && (Y && d) && Z) + lf_n (X && Y && (Z && e)) + lf_n (X && Y && (Z && f)) := by
  cases X
  · exact Nat.zero_mul _
  · cases Y
    · cases a <;> cases b <;> exact Nat.zero_mul _
    · cases Z
      · cases a <;> cases b <;> cases c <;> cases d <;> exact Nat.zero_mul _
      · rw [hS rfl rfl rfl]
        cases a <;> cases b <;> cases c <;> cases d <;> cases e <;> cases f <;> rfl
theorem lf_add6 {f f1 f2 f3 f4 f5 f6 : Nat → Nat} {n k1 k2 k3 k4 k5 k6 : Nat} (e1 : lf_s f1 n = k1) (e2 : lf_s f2 n = k2) (e3 : lf_s f3 n = k3) (e4 : lf_s f4 n = k4) (e5 : lf_s f5 n = k5) (e6 : lf_s f6 n = k6)
    (h : lf_s f n = lf_s (fun c => f1 c + f2 c + f3 c + f4 c + f5 c + f6 c) n) : lf_s f n = k1 + k2 + k3 + k4 + k5 + k6 := by
  rw [h, lf_s_add (fun c => f1 c + f2 c + f3 c + f4 c + f5 c) f6, lf_s_add (fun c => f1 c + f2 c + f3 c + f4 c) f5, lf_s_add (fun c => f1 c + f2 c + f3 c) f4, lf_s_add (fun c => f1 c + f2 c) f3, lf_s_add f1 f2, e1, e2, e3, e4, e5, e6]
theorem lf_faces_1 {B : Nat → Bool} {l h : Nat} (hl : l < 216) (hh : h < 216) (hg : lf_good l h) (hB : ∀ c, c < 216 → B c = lf_in l h c) :
    lf_s (lf_fs B) 216 = 2 * (lf_w l h * lf_d l h + lf_w l h * lf_h l h + lf_d l h * lf_h l h) := by
  have e1 := lf_prod3 (fun x => lf_iv (l % 6) (h % 6) x && decide (x = l % 6)) (lf_iv (l / 6 % 6) (h / 6 % 6)) (lf_iv (l / 36) (h / 36))
  have e2 := lf_prod3 (fun x => lf_iv (l % 6) (h % 6) x && decide (x = h % 6)) (lf_iv (l / 6 % 6) (h / 6 % 6)) (lf_iv (l / 36) (h / 36))
  have e3 := lf_prod3 (lf_iv (l % 6) (h % 6)) (fun x => lf_iv (l / 6 % 6) (h / 6 % 6) x && decide (x = l / 6 % 6)) (lf_iv (l / 36) (h / 36))
  have e4 := lf_prod3 (lf_iv (l % 6) (h % 6)) (fun x => lf_iv (l / 6 % 6) (h / 6 % 6) x && decide (x = h / 6 % 6)) (lf_iv (l / 36) (h / 36))
  have e5 := lf_prod3 (lf_iv (l % 6) (h % 6)) (lf_iv (l / 6 % 6) (h / 6 % 6)) (fun x => lf_iv (l / 36) (h / 36) x && decide (x = l / 36))
  have e6 := lf_prod3 (lf_iv (l % 6) (h % 6)) (lf_iv (l / 6 % 6) (h / 6 % 6)) (fun x => lf_iv (l / 36) (h / 36) x && decide (x = h / 36))
  rw [lf_iv_e1 _ (by omega) _ (by omega) hg.1, lf_iv_n _ (by omega) _ (by omega) hg.2.1, lf_iv_n _ (by omega) _ (by omega) hg.2.2] at e1
  rw [lf_iv_e2 _ (by omega) _ (by omega) hg.1, lf_iv_n _ (by omega) _ (by omega) hg.2.1, lf_iv_n _ (by omega) _ (by omega) hg.2.2] at e2
  rw [lf_iv_n _ (by omega) _ (by omega) hg.1, lf_iv_e1 _ (by omega) _ (by omega) hg.2.1, lf_iv_n _ (by omega) _ (by omega) hg.2.2] at e3
  rw [lf_iv_n _ (by omega) _ (by omega) hg.1, lf_iv_e2 _ (by omega) _ (by omega) hg.2.1, lf_iv_n _ (by omega) _ (by omega) hg.2.2] at e4
  rw [lf_iv_n _ (by omega) _ (by omega) hg.1, lf_iv_n _ (by omega) _ (by omega) hg.2.1, lf_iv_e1 _ (by omega) _ (by omega) hg.2.2] at e5
  rw [lf_iv_n _ (by omega) _ (by omega) hg.1, lf_iv_n _ (by omega) _ (by omega) hg.2.1, lf_iv_e2 _ (by omega) _ (by omega) hg.2.2] at e6
  have key : lf_s (lf_fs B) 216 = 1 * lf_d l h * lf_h l h + 1 * lf_d l h * lf_h l h + lf_w l h * 1 * lf_h l h + lf_w l h * 1 * lf_h l h + lf_w l h * lf_d l h * 1 + lf_w l h * lf_d l h * 1 := by
    refine lf_add6 e1 e2 e3 e4 e5 e6 (lf_s_congr (fun c hc => ?_))
    unfold lf_fs
    rw [hB c hc]
    refine lf_fbool (lf_iv (l % 6) (h % 6) (c % 6)) (lf_iv (l / 6 % 6) (h / 6 % 6) (c / 6 % 6)) (lf_iv (l / 36) (h / 36) (c / 36)) (decide (c % 6 = l % 6)) (decide (c % 6 = h % 6)) (decide (c / 6 % 6 = l / 6 % 6)) (decide (c / 6 % 6 = h / 6 % 6)) (decide (c / 36 = l / 36)) (decide (c / 36 = h / 36)) (lf_s (lf_fc B c) 6) (fun ex ey ez => ?_)
    show 0 + lf_fc B c 0 + lf_fc B c 1 + lf_fc B c 2 + lf_fc B c 3 + lf_fc B c 4 + lf_fc B c 5 = _
    rw [lf_fc_x0 hl hh hc hB ex ey ez, lf_fc_x1 hl hh hc hB ex ey ez, lf_fc_y0 hl hh hc hB ex ey ez, lf_fc_y1 hl hh hc hB ex ey ez, lf_fc_z0 hl hh hc hB ex ey ez, lf_fc_z1 hl hh hc hB ex ey ez, Nat.zero_add]
  rw [key, Nat.one_mul, Nat.mul_one, Nat.mul_one]
  omega
theorem lf_faces_0 {B : Nat → Bool} (hB : ∀ c, c < 216 → B c = false) : lf_s (lf_fs B) 216 = 0 :=
  lf_s_0 (fun c hc => by
    unfold lf_fs
    rw [hB c hc]
    exact Nat.zero_mul _)
end
section
/-- t doesn't tell neighbours in f apart -/
def lf_cn (f t : Nat → Nat → Nat → Prop) : Prop :=
  (∀ x y z, x < 5 → y < 6 → z < 6 → f x y z → f (x + 1) y z → (t x y z ↔ t (x + 1) y z)) ∧
  (∀ x y z, x < 6 → y < 5 → z < 6 → f x y z → f x (y + 1) z → (t x y z ↔ t x (y + 1) z)) ∧
  (∀ x y z, x < 6 → y < 6 → z < 5 → f x y z → f x y (z + 1) → (t x y z ↔ t x y (z + 1)))
theorem lf_cn_yz {f t : Nat → Nat → Nat → Prop} (h : lf_cn f t) : lf_cn (fun x y z => f x z y) (fun x y z => t x z y) :=
  ⟨fun x y z hx hy hz => h.1 x z y hx hz hy, fun x y z hx hy hz => h.2.2 x z y hx hz hy, fun x y z hx hy hz => h.2.1 x z y hx hz hy⟩
theorem lf_cn_xz {f t : Nat → Nat → Nat → Prop} (h : lf_cn f t) : lf_cn (fun x y z => f z y x) (fun x y z => t z y x) :=
  ⟨fun x y z hx hy hz => h.2.2 z y x hz hy hx, fun x y z hx hy hz => h.2.1 z y x hz hy hx, fun x y z hx hy hz => h.1 z y x hz hy hx⟩
theorem lf_line {t : Nat → Prop} {u v : Nat} (h : ∀ x, u ≤ x → x < v → (t x ↔ t (x + 1))) : ∀ k, u + k ≤ v → (t u ↔ t (u + k)) := by
  intro k
  induction k with
  | zero => exact fun _ => Iff.rfl
  | succ k ih => exact fun hk => (ih (by omega)).trans (h (u + k) (by omega) (by omega))
theorem lf_line2 {t : Nat → Prop} {u v x x' : Nat} (h : ∀ x, u ≤ x → x < v → (t x ↔ t (x + 1))) (hx : u ≤ x) (hx2 : x ≤ v) (hy : u ≤ x') (hy2 : x' ≤ v) : t x ↔ t x' := by
  have h1 := lf_line h (x - u) (by omega)
  have h2 := lf_line h (x' - u) (by omega)
  rw [show u + (x - u) = x by omega] at h1
  rw [show u + (x' - u) = x' by omega] at h2
  exact h1.symm.trans h2
theorem lf_con2 {A B C : Nat → Prop} {f t : Nat → Nat → Nat → Prop} (h : lf_cn f t) (hf : ∀ x y z, x < 6 → y < 6 → z < 6 → (A x ∨ B y ∨ C z) → f x y z) {x0 y0 : Nat} (hx0 : x0 < 6) (hy0 : y0 < 6) (ha : A x0) (hb : B y0) :
    ∀ x y z, x < 6 → y < 6 → z < 6 → (A x ∨ B y ∨ C z) → (t x y z ↔ t x0 y0 0) := by
  have LX : ∀ x x' y z, x < 6 → x' < 6 → y < 6 → z < 6 → (B y ∨ C z) → (t x y z ↔ t x' y z) := fun x x' y z hx hx' hy hz o =>
    lf_line2 (t := fun x => t x y z) (u := 0) (v := 5) (fun a _ ha => h.1 a y z ha hy hz (hf _ _ _ (by omega) hy hz (Or.inr o)) (hf _ _ _ (by omega) hy hz (Or.inr o))) (by omega) (by omega) (by omega) (by omega)
  have LY : ∀ x y y' z, x < 6 → y < 6 → y' < 6 → z < 6 → (A x ∨ C z) → (t x y z ↔ t x y' z) := fun x y y' z hx hy hy' hz o =>
    lf_line2 (t := fun y => t x y z) (u := 0) (v := 5) (fun a _ ha => h.2.1 x a z hx ha hz (hf _ _ _ hx (by omega) hz (o.elim Or.inl (fun t => Or.inr (Or.inr t)))) (hf _ _ _ hx (by omega) hz (o.elim Or.inl (fun t => Or.inr (Or.inr t))))) (by omega) (by omega) (by omega) (by omega)
  have LZ : ∀ x y z z', x < 6 → y < 6 → z < 6 → z' < 6 → (A x ∨ B y) → (t x y z ↔ t x y z') := fun x y z z' hx hy hz hz' o =>
    lf_line2 (t := fun z => t x y z) (u := 0) (v := 5) (fun a _ ha => h.2.2 x y a hx hy ha (hf _ _ _ hx hy (by omega) (o.elim Or.inl (fun t => Or.inr (Or.inl t)))) (hf _ _ _ hx hy (by omega) (o.elim Or.inl (fun t => Or.inr (Or.inl t))))) (by omega) (by omega) (by omega) (by omega)
  intro x y z hx hy hz o
  have last : t x0 y0 z ↔ t x0 y0 0 := LZ x0 y0 z 0 hx0 hy0 hz (by omega) (Or.inl ha)
  rcases o with o | o | o
  · exact (LY x y y0 z hx hy hy0 hz (Or.inl o)).trans ((LX x x0 y0 z hx hx0 hy0 hz (Or.inl hb)).trans last)
  · exact (LX x x0 y z hx hx0 hy hz (Or.inl o)).trans ((LY x0 y y0 z hx0 hy hy0 hz (Or.inl ha)).trans last)
  · exact (LX x x0 y z hx hx0 hy hz (Or.inr o)).trans ((LY x0 y y0 z hx0 hy hy0 hz (Or.inl ha)).trans last)
theorem lf_con1 {f t : Nat → Nat → Nat → Prop} {u v : Nat} (h : lf_cn f t) (hv : v < 6) (hf : ∀ x y z, x < 6 → y < 6 → u ≤ z → z ≤ v → f x y z) :
    ∀ x y z, x < 6 → y < 6 → u ≤ z → z ≤ v → (t x y z ↔ t 0 0 u) := by
  intro x y z hx hy hz hz2
  have L1 : t x y z ↔ t 0 y z := lf_line2 (t := fun x => t x y z) (u := 0) (v := 5) (fun a _ ha => h.1 a y z ha hy (by omega) (hf _ _ _ (by omega) hy hz hz2) (hf _ _ _ (by omega) hy hz hz2)) (by omega) (by omega) (by omega) (by omega)
  have L2 : t 0 y z ↔ t 0 0 z := lf_line2 (t := fun y => t 0 y z) (u := 0) (v := 5) (fun a _ ha => h.2.1 0 a z (by omega) ha (by omega) (hf _ _ _ (by omega) (by omega) hz hz2) (hf _ _ _ (by omega) (by omega) hz hz2)) (by omega) (by omega) (by omega) (by omega)
  have L3 : t 0 0 z ↔ t 0 0 u := lf_line2 (t := fun z => t 0 0 z) (u := u) (v := v) (fun a ha ha2 => h.2.2 0 0 a (by omega) (by omega) (by omega) (hf _ _ _ (by omega) (by omega) ha (by omega)) (hf _ _ _ (by omega) (by omega) (by omega) (by omega))) hz hz2 (by omega) (by omega)
  exact L1.trans (L2.trans L3)
/-- T holds with a free cell all its free neighbours -/
def lf_Cl (B T : Nat → Bool) : Prop := ∀ c, c < 216 → B c = false → T c = true → ∀ w d, w < 6 → d < 216 → lf_nb c w = some d → B d = false → T d = true
theorem lf_pair {B T : Nat → Bool} (hcl : lf_Cl B T) {c s w0 w1 : Nat} (hc : c + s < 216) (h0 : w0 < 6) (h1 : w1 < 6) (n1 : lf_nb c w1 = some (c + s)) (n0 : lf_nb (c + s) w0 = some c) (fa : B c = false) (fb : B (c + s) = false) : T c = true ↔ T (c + s) = true :=
  ⟨fun t => hcl c (by omega) fa t w1 (c + s) h1 hc n1 fb, fun t => hcl (c + s) hc fb t w0 c h0 (by omega) n0 fa⟩
theorem lf_nbx {c : Nat} (h : c % 6 < 5) : lf_nb c 1 = some (c + 1) ∧ lf_nb (c + 1) 0 = some c :=
  ⟨lf_nb_o1 1 (by decide) (show c / 1 % 6 < 5 by omega), lf_nb_e1 0 rfl (show 0 < (c + 1) / 1 % 6 by omega)⟩
theorem lf_nby {c : Nat} (h : c / 6 % 6 < 5) : lf_nb c 3 = some (c + 6) ∧ lf_nb (c + 6) 2 = some c :=
  ⟨lf_nb_o1 3 (by decide) (show c / 6 % 6 < 5 by omega), (lf_nb_e1 2 rfl (show 0 < (c + 6) / 6 % 6 by omega)).trans (congrArg some (Nat.add_sub_cancel c 6))⟩
theorem lf_nbz {c : Nat} (h : c / 36 < 5) : lf_nb c 5 = some (c + 36) ∧ lf_nb (c + 36) 4 = some c :=
  ⟨lf_nb_o1 5 (by decide) (show c / 36 % 6 < 5 by omega), (lf_nb_e1 4 rfl (show 0 < (c + 36) / 36 % 6 by omega)).trans (congrArg some (Nat.add_sub_cancel c 36))⟩
theorem lf_cn_of {B T : Nat → Bool} (hcl : lf_Cl B T) : lf_cn (fun x y z => B (x + 6 * y + 36 * z) = false) (fun x y z => T (x + 6 * y + 36 * z) = true) := by
  refine ⟨fun x y z hx hy hz fa fb => ?_, fun x y z hx hy hz fa fb => ?_, fun x y z hx hy hz fa fb => ?_⟩
  · have n := lf_nbx (c := x + 6 * y + 36 * z) (by omega)
    dsimp only at fa fb ⊢
    rw [show x + 1 + 6 * y + 36 * z = x + 6 * y + 36 * z + 1 by omega] at fb ⊢
    exact lf_pair hcl (by omega) (by decide) (by decide) n.1 n.2 fa fb
  · have n := lf_nby (c := x + 6 * y + 36 * z) (by omega)
    dsimp only at fa fb ⊢
    rw [show x + 6 * (y + 1) + 36 * z = x + 6 * y + 36 * z + 6 by omega] at fb ⊢
    exact lf_pair hcl (by omega) (by decide) (by decide) n.1 n.2 fa fb
  · have n := lf_nbz (c := x + 6 * y + 36 * z) (by omega)
    dsimp only at fa fb ⊢
    rw [show x + 6 * y + 36 * (z + 1) = x + 6 * y + 36 * z + 36 by omega] at fb ⊢
    exact lf_pair hcl (by omega) (by decide) (by decide) n.1 n.2 fa fb
theorem lf_nb_cases {a w d : Nat} (h : lf_nb a w = some d) : (w % 2 = 0 ∧ 0 < a / lf_sz w % 6 ∧ d = a - lf_sz w) ∨ (a / lf_sz w % 6 < 5 ∧ d = a + lf_sz w) := by
  by_cases e : w % 2 = 0
  · by_cases t : 0 < a / lf_sz w % 6
    · rw [lf_nb_e1 w e t] at h
      exact Or.inl ⟨e, t, (Option.some.inj h).symm⟩
    · rw [lf_nb_e0 w e t] at h
      exact absurd h (by simp)
  · by_cases t : a / lf_sz w % 6 < 5
    · rw [lf_nb_o1 w e t] at h
      exact Or.inr ⟨t, (Option.some.inj h).symm⟩
    · rw [lf_nb_o0 w e t] at h
      exact absurd h (by simp)
theorem lf_near {a w d : Nat} (ha : a < 216) (hw : w < 6) (h : lf_nb a w = some d) : (d % 6 ≤ a % 6 + 1 ∧ a % 6 ≤ d % 6 + 1) ∧ (d / 6 % 6 ≤ a / 6 % 6 + 1 ∧ a / 6 % 6 ≤ d / 6 % 6 + 1) ∧ (d / 36 ≤ a / 36 + 1 ∧ a / 36 ≤ d / 36 + 1) := by
  have h' := lf_nb_cases h
  have hs : lf_sz w = 1 ∨ lf_sz w = 6 ∨ lf_sz w = 36 := by
    unfold lf_sz
    by_cases e : w < 2
    · rw [if_pos e]
      exact Or.inl rfl
    · rw [if_neg e]
      by_cases e2 : w < 4
      · rw [if_pos e2]
        exact Or.inr (Or.inl rfl)
      · rw [if_neg e2]
        exact Or.inr (Or.inr rfl)
  rcases hs with e | e | e
  · rw [e] at h'
    omega
  · rw [e] at h'
    omega
  · rw [e] at h'
    omega
/-- two sides of the box are whole: what is free lies below a or above b -/
theorem lf_two {B : Nat → Bool} {g : Nat → Nat → Nat → Nat} {κ : Nat → Nat} {a b : Nat} (hab : a ≤ b) (hb : b < 6)
    (hcn : ∀ T, lf_Cl B T → lf_cn (fun x y z => B (g x y z) = false) (fun x y z => T (g x y z) = true))
    (hsur : ∀ c, c < 216 → κ c < 6 ∧ ∃ x y, x < 6 ∧ y < 6 ∧ c = g x y (κ c))
    (hg : ∀ x y z, x < 6 → y < 6 → z < 6 → g x y z < 216 ∧ κ (g x y z) = z)
    (hk : ∀ p d w, p < 216 → w < 6 → lf_nb p w = some d → κ d ≤ κ p + 1 ∧ κ p ≤ κ d + 1)
    (hB : ∀ c, c < 216 → (B c = false ↔ κ c < a ∨ b < κ c)) :
    lf_Rm B (fun c => if κ c < a then 0 else lf_n (decide (0 < a))) (lf_n (decide (0 < a)) + lf_n (decide (b < 5))) := by
  refine ⟨fun p d w hp hd hw e fp fd => ?_, fun T p hp fp hT hcl c hc fc ec => ?_, fun c hc fc => ?_, fun k hK => ?_⟩
  · have h1 := (hB p hp).mp fp
    have h2 := (hB d hd).mp fd
    have h3 := hk p d w hp hw e
    dsimp only
    by_cases t : κ p < a
    · rw [if_pos t, if_pos (by omega)]
    · rw [if_neg t, if_neg (by omega)]
  · have cn := hcn T hcl
    have h1 := (hB p hp).mp fp
    have h2 := (hB c hc).mp fc
    obtain ⟨kp, xp, yp, hxp, hyp, ep⟩ := hsur p hp
    obtain ⟨kc, xc, yc, hxc, hyc, ecc⟩ := hsur c hc
    have same : κ c < a ↔ κ p < a := by
      by_cases t : κ p < a
      · by_cases s : κ c < a
        · exact ⟨fun _ => t, fun _ => s⟩
        · dsimp only at ec
          rw [if_pos t, if_neg s, decide_eq_true (show 0 < a by omega)] at ec
          exact absurd ec (by decide)
      · by_cases s : κ c < a
        · dsimp only at ec
          rw [if_neg t, if_pos s, decide_eq_true (show 0 < a by omega)] at ec
          exact absurd ec (by decide)
        · exact ⟨fun x => absurd x s, fun x => absurd x t⟩
    by_cases t : κ p < a
    · have L := lf_con1 (u := 0) (v := a - 1) cn (by omega) (fun x y z hx hy h0 h1 => (hB _ (hg x y z hx hy (by omega)).1).mpr (Or.inl (by rw [(hg x y z hx hy (by omega)).2]; omega)))
      have i1 := L xp yp (κ p) hxp hyp (by omega) (by omega)
      have i2 := L xc yc (κ c) hxc hyc (by omega) (by have := same.mpr t; omega)
      rw [← ep] at i1
      rw [← ecc] at i2
      exact i2.mpr (i1.mp hT)
    · have s : ¬ κ c < a := fun x => t (same.mp x)
      have L := lf_con1 (u := b + 1) (v := 5) cn (by omega) (fun x y z hx hy h0 h1 => (hB _ (hg x y z hx hy (by omega)).1).mpr (Or.inr (by rw [(hg x y z hx hy (by omega)).2]; omega)))
      have i1 := L xp yp (κ p) hxp hyp (by omega) (by omega)
      have i2 := L xc yc (κ c) hxc hyc (by omega) (by omega)
      rw [← ep] at i1
      rw [← ecc] at i2
      exact i2.mpr (i1.mp hT)
  · have h2 := (hB c hc).mp fc
    have h3 := (hsur c hc).1
    dsimp only
    by_cases t : κ c < a
    · rw [if_pos t, decide_eq_true (show 0 < a by omega)]
      show 0 < 1 + _
      omega
    · rw [if_neg t, decide_eq_true (show b < 5 by omega)]
      show _ < _ + 1
      omega
  · by_cases ha : 0 < a
    · rw [decide_eq_true ha] at hK ⊢
      by_cases k0 : k = 0
      · have h0 := hg 0 0 0 (by omega) (by omega) (by omega)
        refine ⟨g 0 0 0, h0.1, (hB _ h0.1).mpr (Or.inl (by omega)), ?_⟩
        dsimp only
        rw [if_pos (by omega), k0]
      · have hb5 : b < 5 := by
          by_cases t : b < 5
          · exact t
          · rw [decide_eq_false t] at hK
            have hK' : k < 1 := hK
            omega
        have hK1 : k = 1 := by
          rw [decide_eq_true hb5] at hK
          have hK' : k < 2 := hK
          omega
        have h0 := hg 0 0 5 (by omega) (by omega) (by omega)
        refine ⟨g 0 0 5, h0.1, (hB _ h0.1).mpr (Or.inr (by omega)), ?_⟩
        dsimp only
        rw [if_neg (by omega), hK1]
        rfl
    · rw [decide_eq_false ha] at hK ⊢
      have hb5 : b < 5 := by
        by_cases t : b < 5
        · exact t
        · rw [decide_eq_false t] at hK
          have hK' : k < 0 := hK
          omega
      have hK1 : k = 0 := by
        rw [decide_eq_true hb5] at hK
        have hK' : k < 1 := hK
        omega
      have h0 := hg 0 0 5 (by omega) (by omega) (by omega)
      refine ⟨g 0 0 5, h0.1, (hB _ h0.1).mpr (Or.inr (by omega)), ?_⟩
      dsimp only
      rw [if_neg (by omega), hK1]
      rfl
/-- no more than one side of the box is whole: what is free is one room -/
theorem lf_one {B : Nat → Bool} {g : Nat → Nat → Nat → Nat} {P Q R : Nat → Prop} {x0 y0 : Nat}
    (hcn : ∀ T, lf_Cl B T → lf_cn (fun x y z => B (g x y z) = false) (fun x y z => T (g x y z) = true))
    (hsur : ∀ c, c < 216 → ∃ x y z, x < 6 ∧ y < 6 ∧ z < 6 ∧ c = g x y z)
    (hg : ∀ x y z, x < 6 → y < 6 → z < 6 → g x y z < 216)
    (hB : ∀ x y z, x < 6 → y < 6 → z < 6 → (B (g x y z) = false ↔ P x ∨ Q y ∨ R z)) (hx0 : x0 < 6) (hy0 : y0 < 6) (hP : P x0) (hQ : Q y0) :
    lf_Rm B (fun _ => 0) 1 := by
  refine ⟨fun _ _ _ _ _ _ _ _ _ => rfl, fun T p hp fp hT hcl c hc fc _ => ?_, fun _ _ _ => Nat.zero_lt_one, fun k hk => ⟨g x0 y0 0, hg _ _ _ hx0 hy0 (by omega), (hB _ _ _ hx0 hy0 (by omega)).mpr (Or.inl hP), (show 0 = k by omega)⟩⟩
  have L := lf_con2 (A := P) (B := Q) (C := R) (hcn T hcl) (fun x y z hx hy hz o => (hB x y z hx hy hz).mpr o) hx0 hy0 hP hQ
  obtain ⟨xp, yp, zp, hxp, hyp, hzp, ep⟩ := hsur p hp
  obtain ⟨xc, yc, zc, hxc, hyc, hzc, ec⟩ := hsur c hc
  subst ep ec
  exact (L xc yc zc hxc hyc hzc ((hB _ _ _ hxc hyc hzc).mp fc)).mpr ((L xp yp zp hxp hyp hzp ((hB _ _ _ hxp hyp hzp).mp fp)).mp hT)
theorem lf_rooms_0 {B : Nat → Bool} (hB : ∀ c, c < 216 → B c = false) : lf_Rm B (fun _ => 0) 1 :=
  lf_one (g := fun x y z => x + 6 * y + 36 * z) (P := fun _ => True) (Q := fun _ => True) (R := fun _ => True) (x0 := 0) (y0 := 0) (fun T h => lf_cn_of h) (fun c hc => ⟨c % 6, c / 6 % 6, c / 36, by omega, by omega, by omega, by omega⟩) (fun x y z hx hy hz => by omega) (fun x y z hx hy hz => ⟨fun _ => Or.inl trivial, fun _ => hB _ (by omega)⟩) (by omega) (by omega) trivial trivial
def lf_sd (l h : Nat) : Nat := lf_n (decide (lf_w l h = 6)) + lf_n (decide (lf_d l h = 6)) + lf_n (decide (lf_h l h = 6))
def lf_mx (l h : Nat) : Bool := decide (lf_w l h < 6) && decide (0 < l % 6) && decide (h % 6 < 5)
def lf_my (l h : Nat) : Bool := decide (lf_d l h < 6) && decide (0 < l / 6 % 6) && decide (h / 6 % 6 < 5)
def lf_mz (l h : Nat) : Bool := decide (lf_h l h < 6) && decide (0 < l / 36) && decide (h / 36 < 5)
def lf_rk (l h : Nat) : Nat := if lf_sd l h = 3 then 0 else if lf_sd l h = 2 ∧ (lf_mx l h || lf_my l h || lf_mz l h) = true then 2 else 1
theorem lf_and3f (a b c : Bool) : (a && b && c) = false ↔ a = false ∨ b = false ∨ c = false := by cases a <;> cases b <;> cases c <;> decide
theorem lf_iv_f (a b x : Nat) : lf_iv a b x = false ↔ x < a ∨ b < x := by
  constructor
  · intro e
    by_cases h1 : x < a
    · exact Or.inl h1
    · by_cases h2 : b < x
      · exact Or.inr h2
      · rw [lf_iv_in (by omega) (by omega)] at e
        exact absurd e (by decide)
  · intro o
    exact o.elim lf_iv_lo lf_iv_hi
theorem lf_in_xyz (l h : Nat) {x y z : Nat} (hx : x < 6) (hy : y < 6) (hz : z < 6) : lf_in l h (x + 6 * y + 36 * z) = (lf_iv (l % 6) (h % 6) x && lf_iv (l / 6 % 6) (h / 6 % 6) y && lf_iv (l / 36) (h / 36) z) := by
  unfold lf_in
  rw [show (x + 6 * y + 36 * z) % 6 = x by omega, show (x + 6 * y + 36 * z) / 6 % 6 = y by omega, show (x + 6 * y + 36 * z) / 36 = z by omega]
theorem lf_proper {a b : Nat} (hn : ¬ b + 1 - a = 6) (hb : b < 6) : ∃ x, x < 6 ∧ lf_iv a b x = false := by
  by_cases h : 0 < a
  · exact ⟨0, by omega, lf_iv_lo h⟩
  · exact ⟨5, by omega, lf_iv_hi (by omega)⟩
theorem lf_full {a b x : Nat} (hn : b + 1 - a = 6) (hb : b < 6) (hx : x < 6) : lf_iv a b x = true := lf_iv_in (by omega) (by omega)
theorem lf_rk1 {l h : Nat} (e : lf_sd l h ≤ 1) : lf_rk l h = 1 := by
  unfold lf_rk
  rw [if_neg (by omega), if_neg (fun t => by omega)]
theorem lf_in_z {l h : Nat} (ew : lf_w l h = 6) (ed : lf_d l h = 6) {c : Nat} (hc : c < 216) (hl : l < 216) (hh : h < 216) : lf_in l h c = lf_iv (l / 36) (h / 36) (c / 36) := by
  unfold lf_in
  rw [lf_full ew (by omega) (by omega), lf_full ed (by omega) (by omega), Bool.true_and, Bool.true_and]
theorem lf_in_y {l h : Nat} (ew : lf_w l h = 6) (eh : lf_h l h = 6) {c : Nat} (hc : c < 216) (hl : l < 216) (hh : h < 216) : lf_in l h c = lf_iv (l / 6 % 6) (h / 6 % 6) (c / 6 % 6) := by
  unfold lf_in
  rw [lf_full ew (by omega) (by omega), lf_full eh (by omega) (by omega), Bool.true_and, Bool.and_true]
theorem lf_in_x {l h : Nat} (ed : lf_d l h = 6) (eh : lf_h l h = 6) {c : Nat} (hc : c < 216) (hl : l < 216) (hh : h < 216) : lf_in l h c = lf_iv (l % 6) (h % 6) (c % 6) := by
  unfold lf_in
  rw [lf_full ed (by omega) (by omega), lf_full eh (by omega) (by omega), Bool.and_true, Bool.and_true]
/-- the number of rooms, two sides whole, by the third one's ends -/
theorem lf_rk2 {S a b H : Nat} (hH : H = b + 1 - a) (hab : a ≤ b) (hb : b < 6) (hS : S = 2 + lf_n (decide (H = 6))) {m : Bool} (hm : m = (decide (H < 6) && decide (0 < a) && decide (b < 5))) :
    (if S = 3 then 0 else if S = 2 ∧ m = true then 2 else 1) = lf_n (decide (0 < a)) + lf_n (decide (b < 5)) := by
  subst hH hS hm
  by_cases h1 : 0 < a
  · rw [decide_eq_true h1, decide_eq_false (show ¬ b + 1 - a = 6 by omega), decide_eq_true (show b + 1 - a < 6 by omega)]
    by_cases h2 : b < 5
    · rw [decide_eq_true h2]
      rfl
    · rw [decide_eq_false h2]
      rfl
  · rw [decide_eq_false h1]
    by_cases h2 : b < 5
    · rw [decide_eq_true h2, decide_eq_false (show ¬ b + 1 - a = 6 by omega), decide_eq_true (show b + 1 - a < 6 by omega)]
      rfl
    · rw [decide_eq_false h2, decide_eq_true (show b + 1 - a = 6 by omega)]
      rfl
theorem lf_roomsK {B : Nat → Bool} {l h : Nat} (hl : l < 216) (hh : h < 216) (hg : lf_good l h) (hB : ∀ c, c < 216 → B c = lf_in l h c) : ∃ cm, lf_Rm B cm (lf_rk l h) := by
  have hw6 : lf_w l h ≤ 6 := by
    unfold lf_w
    omega
  have hd6 : lf_d l h ≤ 6 := by
    unfold lf_d
    omega
  have hh6 : lf_h l h ≤ 6 := by
    unfold lf_h
    omega
  have hBf : ∀ x y z, x < 6 → y < 6 → z < 6 → (B (x + 6 * y + 36 * z) = false ↔ lf_iv (l % 6) (h % 6) x = false ∨ lf_iv (l / 6 % 6) (h / 6 % 6) y = false ∨ lf_iv (l / 36) (h / 36) z = false) := by
    intro x y z hx hy hz
    rw [hB _ (by omega), lf_in_xyz l h hx hy hz]
    exact lf_and3f _ _ _
  by_cases ew : lf_w l h = 6
  · by_cases ed : lf_d l h = 6
    · have e : lf_rk l h = lf_n (decide (0 < l / 36)) + lf_n (decide (h / 36 < 5)) := by
        unfold lf_rk
        refine lf_rk2 (H := lf_h l h) rfl hg.2.2 (by omega) ?_ ?_
        · unfold lf_sd
          rw [decide_eq_true ew, decide_eq_true ed]
          rfl
        · unfold lf_mx lf_my lf_mz
          rw [decide_eq_false (show ¬ lf_w l h < 6 by omega), decide_eq_false (show ¬ lf_d l h < 6 by omega)]
          rfl
      rw [e]
      exact ⟨_, lf_two (g := fun x y z => x + 6 * y + 36 * z) (κ := fun c => c / 36) hg.2.2 (by omega) (fun T t => lf_cn_of t) (fun c hc => ⟨by omega, c % 6, c / 6 % 6, by omega, by omega, by omega⟩) (fun x y z hx hy hz => ⟨by omega, by omega⟩) (fun p d w hp hw t => (lf_near hp hw t).2.2) (fun c hc => by rw [hB c hc, lf_in_z ew ed hc hl hh]; exact lf_iv_f _ _ _)⟩
    · by_cases eh : lf_h l h = 6
      · have e : lf_rk l h = lf_n (decide (0 < l / 6 % 6)) + lf_n (decide (h / 6 % 6 < 5)) := by
          unfold lf_rk
          refine lf_rk2 (H := lf_d l h) rfl hg.2.1 (by omega) ?_ ?_
          · unfold lf_sd
            rw [decide_eq_true ew, decide_eq_true eh]
            show 1 + _ + 1 = 2 + _
            omega
          · unfold lf_mx lf_my lf_mz
            rw [decide_eq_false (show ¬ lf_w l h < 6 by omega), decide_eq_false (show ¬ lf_h l h < 6 by omega), Bool.false_and, Bool.false_and, Bool.false_and, Bool.false_and, Bool.false_or, Bool.or_false]
        rw [e]
        exact ⟨_, lf_two (g := fun x y z => x + 6 * z + 36 * y) (κ := fun c => c / 6 % 6) hg.2.1 (by omega) (fun T t => lf_cn_yz (lf_cn_of t)) (fun c hc => ⟨by omega, c % 6, c / 36, by omega, by omega, by omega⟩) (fun x y z hx hy hz => ⟨by omega, by omega⟩) (fun p d w hp hw t => (lf_near hp hw t).2.1) (fun c hc => by rw [hB c hc, lf_in_y ew eh hc hl hh]; exact lf_iv_f _ _ _)⟩
      · have e : lf_rk l h = 1 := lf_rk1 (by
          unfold lf_sd
          rw [decide_eq_false ed, decide_eq_false eh]
          have := lf_n1 (decide (lf_w l h = 6))
          show _ + 0 + 0 ≤ 1
          omega)
        rw [e]
        obtain ⟨y0, hy0, ey0⟩ := lf_proper ed (by omega)
        obtain ⟨z0, hz0, ez0⟩ := lf_proper eh (by omega)
        exact ⟨_, lf_one (g := fun x y z => z + 6 * y + 36 * x) (P := fun z => lf_iv (l / 36) (h / 36) z = false) (Q := fun y => lf_iv (l / 6 % 6) (h / 6 % 6) y = false) (R := fun x => lf_iv (l % 6) (h % 6) x = false) (fun T t => lf_cn_xz (lf_cn_of t)) (fun c hc => ⟨c / 36, c / 6 % 6, c % 6, by omega, by omega, by omega, by omega⟩) (fun x y z hx hy hz => by omega) (fun x y z hx hy hz => (hBf z y x hz hy hx).trans ⟨fun o => o.elim (fun t => Or.inr (Or.inr t)) (fun o => o.elim (fun t => Or.inr (Or.inl t)) Or.inl), fun o => o.elim (fun t => Or.inr (Or.inr t)) (fun o => o.elim (fun t => Or.inr (Or.inl t)) Or.inl)⟩) hz0 hy0 ez0 ey0⟩
  · by_cases ed : lf_d l h = 6
    · by_cases eh : lf_h l h = 6
      · have e : lf_rk l h = lf_n (decide (0 < l % 6)) + lf_n (decide (h % 6 < 5)) := by
          unfold lf_rk
          refine lf_rk2 (H := lf_w l h) rfl hg.1 (by omega) ?_ ?_
          · unfold lf_sd
            rw [decide_eq_true ed, decide_eq_true eh]
            show _ + 1 + 1 = 2 + _
            omega
          · unfold lf_mx lf_my lf_mz
            rw [decide_eq_false (show ¬ lf_d l h < 6 by omega), decide_eq_false (show ¬ lf_h l h < 6 by omega), Bool.false_and, Bool.false_and, Bool.false_and, Bool.false_and, Bool.or_false, Bool.or_false]
        rw [e]
        exact ⟨_, lf_two (g := fun x y z => z + 6 * y + 36 * x) (κ := fun c => c % 6) hg.1 (by omega) (fun T t => lf_cn_xz (lf_cn_of t)) (fun c hc => ⟨by omega, c / 36, c / 6 % 6, by omega, by omega, by omega⟩) (fun x y z hx hy hz => ⟨by omega, by omega⟩) (fun p d w hp hw t => (lf_near hp hw t).1) (fun c hc => by rw [hB c hc, lf_in_x ed eh hc hl hh]; exact lf_iv_f _ _ _)⟩
      · have e : lf_rk l h = 1 := lf_rk1 (by
          unfold lf_sd
          rw [decide_eq_false ew, decide_eq_false eh]
          have := lf_n1 (decide (lf_d l h = 6))
          show 0 + _ + 0 ≤ 1
          omega)
        rw [e]
        obtain ⟨x0, hx0, ex0⟩ := lf_proper ew (by omega)
        obtain ⟨z0, hz0, ez0⟩ := lf_proper eh (by omega)
        exact ⟨_, lf_one (g := fun x y z => x + 6 * z + 36 * y) (P := fun x => lf_iv (l % 6) (h % 6) x = false) (Q := fun z => lf_iv (l / 36) (h / 36) z = false) (R := fun y => lf_iv (l / 6 % 6) (h / 6 % 6) y = false) (fun T t => lf_cn_yz (lf_cn_of t)) (fun c hc => ⟨c % 6, c / 36, c / 6 % 6, by omega, by omega, by omega, by omega⟩) (fun x y z hx hy hz => by omega) (fun x y z hx hy hz => (hBf x z y hx hz hy).trans ⟨fun o => o.elim Or.inl (fun o => o.elim (fun t => Or.inr (Or.inr t)) (fun t => Or.inr (Or.inl t))), fun o => o.elim Or.inl (fun o => o.elim (fun t => Or.inr (Or.inr t)) (fun t => Or.inr (Or.inl t)))⟩) hx0 hz0 ex0 ez0⟩
    · have e : lf_rk l h = 1 := lf_rk1 (by
        unfold lf_sd
        rw [decide_eq_false ew, decide_eq_false ed]
        have := lf_n1 (decide (lf_h l h = 6))
        show 0 + 0 + _ ≤ 1
        omega)
      rw [e]
      obtain ⟨x0, hx0, ex0⟩ := lf_proper ew (by omega)
      obtain ⟨y0, hy0, ey0⟩ := lf_proper ed (by omega)
      exact ⟨_, lf_one (g := fun x y z => x + 6 * y + 36 * z) (P := fun x => lf_iv (l % 6) (h % 6) x = false) (Q := fun y => lf_iv (l / 6 % 6) (h / 6 % 6) y = false) (R := fun z => lf_iv (l / 36) (h / 36) z = false) (fun T t => lf_cn_of t) (fun c hc => ⟨c % 6, c / 6 % 6, c / 36, by omega, by omega, by omega, by omega⟩) (fun x y z hx hy hz => by omega) hBf hx0 hy0 ex0 ey0⟩
end
section
section
variable {post : Int32 → St0 → Prop} {mc ms kc ks : Nat} {x0 x1 x3 x5 x6 x7 x8 x9 x12 x18 x19 x20 x22 w : Int32} {a1 a2 a3 a4 a5 a6 a7 a8 a9 : Nat → Int32} {l h : Nat} {B V S : Nat → Bool}
theorem lf_bn (b : Bool) : lf_b b = nI (lf_n b) := by cases b <;> rfl
/-- what isn't a box -/
def lf_bad (x y : Int32) : Prop := ∀ post : Int32 → Prop, post 0 → wpX_isBox post () x y
theorem lf_fillN {post : Int32 → St2 → Prop} {x y z : Int32} (hb : lf_bad x y) (H : post (-1) (w, a1, a2, a3, a4, a5, a6, a7, a8, a9)) : wpX_fill post (w, a1, a2, a3, a4, a5, a6, a7, a8, a9) x y z := by
  unfold wpX_fill
  dsimp only
  exact hb _ (br_t rfl H)
theorem lf_shellN {post : Int32 → St2 → Prop} {x y : Int32} (hb : lf_bad x y) (H : post (-1) (w, a1, a2, a3, a4, a5, a6, a7, a8, a9)) : wpX_shell post (w, a1, a2, a3, a4, a5, a6, a7, a8, a9) x y := by
  unfold wpX_shell
  dsimp only
  exact hb _ (br_t rfl H)
/-! the tail: shell, fill, faces -/
theorem lf_689n {z : Int32} (hp : post 1 ()) (hb : lf_bad x0 x1) (hB : ∀ c, c < 216 → B c = false) : wL_lawOf_689 post mc ms x0 x1 x5 x6 x7 0 x9 x22 z z kc ks w (lf_a B) a2 a3 a4 a5 a6 a7 a8 a9 := by
  refine br_t rfl (lf_fillN hb (lf_faces ?_))
  rw [lf_faces_0 hB]
  exact br_t rfl (br_t rfl (br_t rfl hp))
theorem lf_647n {z : Int32} (hp : post 1 ()) (hb : lf_bad x0 x1) (hB : ∀ c, c < 216 → B c = false) : wL_lawOf_647 post mc ms x0 x1 x5 x6 x7 0 x9 z kc ks w (lf_a B) a2 a3 a4 a5 a6 a7 a8 a9 :=
  lf_shellN hb (br_t rfl (lf_689n hp hb hB))
theorem lf_689g {z : Int32} (hp : post 1 ()) (hl : l < 216) (hh : h < 216) (hg : lf_good l h) (hV : lf_see B V) (hB : ∀ c, c < 216 → lf_in l h c = false → B c = false)
    (h0 : x9 = 0 → (x5 * x6) * x7 - x22 = nI (lf_s (lf_ch (lf_in l h) B false) 216)) (h1 : ¬ x9 = 0 → (x5 * x6) * x7 = nI (lf_s (lf_ch (lf_in l h) B false) 216)) :
    wL_lawOf_689 post mc ms (nI l) (nI h) x5 x6 x7 1 x9 x22 z z kc ks w (lf_a B) a2 (lf_a V) a4 a5 a6 a7 a8 a9 := by
  refine br_t rfl (lf_fill (f := false) hl hh hg ⟨fun _ => rfl, fun _ => rfl⟩ hV (fun w B2 V2 a4 a5 a6 a7 hV2 e1 e2 => lf_faces ?_))
  have hB2 : ∀ c, c < 216 → B2 c = false := fun c hc => by
    cases t : lf_in l h c
    · rw [e2 c hc t, hB c hc t]
    · exact e1 c hc t
  rw [lf_faces_0 hB2]
  refine br_f (by decide) (br_c (fun z => ?_) (fun z => ?_))
  · rw [h0 z]
    exact br_t rfl (br_t rfl hp)
  · rw [h1 z]
    exact br_t rfl (br_t rfl hp)
theorem lf_647f {z : Int32} (hp : post 1 ()) (hl : l < 216) (hh : h < 216) (hg : lf_good l h) (hV : lf_see B V) (hB : ∀ c, c < 216 → B c = lf_in l h c) (hx : (x5 * x6) * x7 = nI (lf_w l h * lf_d l h * lf_h l h)) :
    wL_lawOf_647 post mc ms (nI l) (nI h) x5 x6 x7 1 1 z kc ks w (lf_a B) a2 (lf_a V) a4 a5 a6 a7 a8 a9 := by
  refine lf_shell hl hh hg hV (fun w B2 V2 a4 a5 a6 a7 hV2 e1 e2 => ?_)
  have c0 : lf_s (lf_ch (fun c => lf_in l h c && lf_wl l h c) B true) 216 = 0 := lf_s_0 (fun c hc => lf_ch0 (fun t => by
    rw [hB c hc]
    cases e : lf_in l h c
    · rw [e, Bool.false_and] at t
      exact t
    · rfl))
  have hB2 : ∀ c, c < 216 → B2 c = lf_in l h c := fun c hc => by
    cases t : (lf_in l h c && lf_wl l h c)
    · rw [e2 c hc t, hB c hc]
    · rw [e1 c hc t]
      cases e : lf_in l h c
      · rw [e, Bool.false_and] at t
        exact t.symm
      · rfl
  have c1 : lf_s (lf_ch (lf_in l h) B2 false) 216 = lf_w l h * lf_d l h * lf_h l h := by
    rw [← lf_c_box hl hh hg]
    refine lf_s_congr (fun c hc => ?_)
    unfold lf_ch
    rw [hB2 c hc]
    cases lf_in l h c <;> rfl
  rw [c0]
  refine br_f (by decide) (br_f (by decide) (lf_689g hp hl hh hg hV2 (fun c hc t => by rw [hB2 c hc, t]) (fun t => absurd t (by decide)) (fun _ => by rw [c1]; exact hx)))
theorem lf_647e {z : Int32} (hp : post 1 ()) (hl : l < 216) (hh : h < 216) (hg : lf_good l h) (hV : lf_see B V) (hB : ∀ c, c < 216 → B c = false) (hx : (x5 * x6) * x7 = nI (lf_w l h * lf_d l h * lf_h l h)) (hz : z = nI ((lf_w l h - 2) * (lf_d l h - 2) * (lf_h l h - 2))) :
    wL_lawOf_647 post mc ms (nI l) (nI h) x5 x6 x7 1 0 z kc ks w (lf_a B) a2 (lf_a V) a4 a5 a6 a7 a8 a9 := by
  refine lf_shell hl hh hg hV (fun w B2 V2 a4 a5 a6 a7 hV2 e1 e2 => ?_)
  have ci := lf_c_inner hl hh hg
  have c0 : lf_s (lf_ch (fun c => lf_in l h c && lf_wl l h c) B true) 216 = lf_s (fun c => lf_n (lf_in l h c && lf_wl l h c)) 216 := lf_s_congr (fun c hc => by
    unfold lf_ch
    rw [hB c hc]
    exact congrArg lf_n (Bool.and_true _))
  have hB2 : ∀ c, c < 216 → B2 c = (lf_in l h c && lf_wl l h c) := fun c hc => by
    cases t : (lf_in l h c && lf_wl l h c)
    · rw [e2 c hc t, hB c hc]
    · exact e1 c hc t
  have c1 : lf_s (lf_ch (lf_in l h) B2 false) 216 = lf_s (fun c => lf_n (lf_in l h c && lf_wl l h c)) 216 := by
    refine lf_s_congr (fun c hc => ?_)
    unfold lf_ch
    rw [hB2 c hc]
    cases lf_in l h c <;> cases lf_wl l h c <;> rfl
  have hs : (x5 * x6) * x7 - z = nI (lf_s (fun c => lf_n (lf_in l h c && lf_wl l h c)) 216) := by
    rw [hx, hz, pk_sub (by omega)]
    exact congrArg nI (by omega)
  rw [c0]
  refine br_f (by decide) (br_t rfl ?_)
  rw [hs]
  refine lf_689g hp hl hh hg hV2 (fun c hc t => by rw [hB2 c hc, t]; rfl) (fun _ => by rw [c1]; exact hs) (fun t => absurd rfl t)
/-! the inner box -/
theorem lf_606a {z : Int32} (H : ∀ z, wL_lawOf_647 post mc ms x0 x1 x5 x6 x7 x8 x9 z kc ks w a1 a2 a3 a4 a5 a6 a7 a8 a9) : wL_lawOf_606 post mc ms x0 x1 x5 x6 x7 x8 x9 z z kc ks w a1 a2 a3 a4 a5 a6 a7 a8 a9 :=
  br_t rfl (br_c (fun _ => H 0) (fun _ => br_c (fun _ => H 0) (fun _ => br_c (fun _ => H 0) (fun _ => H _))))
theorem lf_606g {z : Int32} (hl : l < 216) (hh : h < 216) (H : wL_lawOf_647 post mc ms x0 x1 (nI (lf_w l h)) (nI (lf_d l h)) (nI (lf_h l h)) x8 x9 (nI ((lf_w l h - 2) * (lf_d l h - 2) * (lf_h l h - 2))) kc ks w a1 a2 a3 a4 a5 a6 a7 a8 a9) :
    wL_lawOf_606 post mc ms x0 x1 (nI (lf_w l h)) (nI (lf_d l h)) (nI (lf_h l h)) x8 x9 z z kc ks w a1 a2 a3 a4 a5 a6 a7 a8 a9 := by
  have hw6 : lf_w l h ≤ 6 := by
    unfold lf_w
    omega
  have hd6 : lf_d l h ≤ 6 := by
    unfold lf_d
    omega
  have hh6 : lf_h l h ≤ 6 := by
    unfold lf_h
    omega
  have H0 : lf_w l h ≤ 2 ∨ lf_d l h ≤ 2 ∨ lf_h l h ≤ 2 → wL_lawOf_647 post mc ms x0 x1 (nI (lf_w l h)) (nI (lf_d l h)) (nI (lf_h l h)) x8 x9 0 kc ks w a1 a2 a3 a4 a5 a6 a7 a8 a9 := fun o => by
    have e : (lf_w l h - 2) * (lf_d l h - 2) * (lf_h l h - 2) = 0 := by
      rcases o with o | o | o
      · rw [show lf_w l h - 2 = 0 by omega, Nat.zero_mul, Nat.zero_mul]
      · rw [show lf_d l h - 2 = 0 by omega, Nat.mul_zero, Nat.zero_mul]
      · rw [show lf_h l h - 2 = 0 by omega, Nat.mul_zero]
    rw [e] at H
    exact H
  refine br_t rfl (pk_le (lf_w l h) 2 (fun z => H0 (Or.inl z)) (fun z1 => pk_le (lf_d l h) 2 (fun z => H0 (Or.inr (Or.inl z))) (fun z2 => pk_le (lf_h l h) 2 (fun z => H0 (Or.inr (Or.inr z))) (fun z3 => ?_))))
  rw [show nI (lf_w l h) - 2 = nI (lf_w l h - 2) from pk_sub (b := 2) (by omega), show nI (lf_d l h) - 2 = nI (lf_d l h - 2) from pk_sub (b := 2) (by omega), show nI (lf_h l h) - 2 = nI (lf_h l h - 2) from pk_sub (b := 2) (by omega), pk_mul, pk_mul]
  exact H
/-! rooms -/
theorem lf_559e {z : Int32} {cm : Nat → Nat} (hm : lf_Rm B cm 1) (H : ∀ w a6 S, wL_lawOf_606 post mc ms x0 x1 x5 x6 x7 x8 0 1 1 kc ks w (lf_a B) a2 a3 a4 a5 a6 a7 a8 (lf_a S)) :
    wL_lawOf_559 post mc ms x0 x1 x5 x6 x7 x8 0 x19 z kc ks w (lf_a B) a2 a3 a4 a5 a6 a7 a8 (lf_a S) :=
  lf_rooms hm (fun w a6 T => br_t rfl (br_t rfl (H w a6 T)))
theorem lf_559f {cm : Nat → Nat} (hm : lf_Rm B cm (lf_rk l h)) (H : ∀ z w a6 S, wL_lawOf_606 post mc ms x0 x1 x5 x6 x7 x8 1 z z kc ks w (lf_a B) a2 a3 a4 a5 a6 a7 a8 (lf_a S)) :
    wL_lawOf_559 post mc ms x0 x1 x5 x6 x7 x8 1 (nI (lf_sd l h)) (lf_b (lf_mx l h || lf_my l h || lf_mz l h)) kc ks w (lf_a B) a2 a3 a4 a5 a6 a7 a8 (lf_a S) := by
  have hs : lf_sd l h ≤ 3 := by
    have h1 := lf_n1 (decide (lf_w l h = 6))
    have h2 := lf_n1 (decide (lf_d l h = 6))
    have h3 := lf_n1 (decide (lf_h l h = 6))
    unfold lf_sd
    omega
  refine lf_rooms hm (fun w a6 T => br_f (by decide) (pk_eq (lf_sd l h) 3 (fun z => ?_) (fun z => br_f (by decide) (pk_eq (lf_sd l h) 2 (fun z2 => lf_br (lf_mx l h || lf_my l h || lf_mz l h) (fun e => ?_) (fun e => ?_)) (fun z2 => ?_)))))
  · rw [show lf_rk l h = 0 from if_pos z]
    exact H 0 w a6 T
  · rw [show lf_rk l h = 1 from (if_neg z).trans (if_neg (fun t => by rw [e] at t; exact absurd t.2 (by decide)))]
    exact H 1 w a6 T
  · rw [show lf_rk l h = 2 from (if_neg z).trans (if_pos ⟨z2, e⟩)]
    exact H 2 w a6 T
  · rw [show lf_rk l h = 1 from (if_neg z).trans (if_neg (fun t => z2 t.1))]
    exact H 1 w a6 T
/-! sides and mid, for whatever sizes -/
theorem lf_525a (H : ∀ z, wL_lawOf_559 post mc ms x0 x1 x5 x6 x7 x8 x9 x19 z kc ks w a1 a2 a3 a4 a5 a6 a7 a8 a9) (z : Int32) : wL_lawOf_525 post mc ms x0 x1 x5 x6 x7 x8 x9 x19 z kc ks w a1 a2 a3 a4 a5 a6 a7 a8 a9 :=
  br_c (fun _ => br_c (fun _ => H 0) (fun _ => ⟨by decide, br_c (fun _ => H 0) (fun _ => ⟨by decide, br_c (fun _ => H 0) (fun _ => H 1)⟩)⟩)) (fun _ => H 1)
theorem lf_485a (H : ∀ z, wL_lawOf_525 post mc ms x0 x1 x5 x6 x7 x8 x9 x19 z kc ks w a1 a2 a3 a4 a5 a6 a7 a8 a9) (z : Int32) : wL_lawOf_485 post mc ms x0 x1 x5 x6 x7 x8 x9 x19 z kc ks w a1 a2 a3 a4 a5 a6 a7 a8 a9 :=
  br_c (fun _ => br_c (fun _ => H 0) (fun _ => ⟨by decide, by decide, br_c (fun _ => H 0) (fun _ => ⟨by decide, by decide, br_c (fun _ => H 0) (fun _ => H 1)⟩)⟩)) (fun _ => H 1)
theorem lf_455a (H : ∀ x z, wL_lawOf_485 post mc ms x0 x1 x5 x6 x7 x8 x9 x z kc ks w a1 a2 a3 a4 a5 a6 a7 a8 a9) (z z' : Int32) : wL_lawOf_455 post mc ms x0 x1 x5 x6 x7 x8 x9 z z' kc ks w a1 a2 a3 a4 a5 a6 a7 a8 a9 :=
  nm_e (br_c (fun _ => H _ 0) (fun _ => ⟨by decide, br_c (fun _ => H _ 0) (fun _ => ⟨by decide, br_c (fun _ => H _ 0) (fun _ => H _ 1)⟩)⟩))
theorem lf_413a {z : Int32} (H : ∀ x z, wL_lawOf_559 post mc ms x0 x1 x5 x6 x7 x8 x9 x z kc ks w a1 a2 a3 a4 a5 a6 a7 a8 a9) : wL_lawOf_413 post mc ms x0 x1 x5 x6 x7 x8 x9 z z kc ks w a1 a2 a3 a4 a5 a6 a7 a8 a9 := by
  have h1 : ∀ z z', wL_lawOf_455 post mc ms x0 x1 x5 x6 x7 x8 x9 z z' kc ks w a1 a2 a3 a4 a5 a6 a7 a8 a9 := lf_455a (fun x z => lf_485a (fun z => lf_525a (fun z => H x z) z) z)
  have h2 : ∀ z z', wL_lawOf_442 post mc ms x0 x1 x5 x6 x7 x8 x9 z z' kc ks w a1 a2 a3 a4 a5 a6 a7 a8 a9 := fun z z' => br_c (fun _ => h1 _ _) (fun _ => h1 _ _)
  have h3 : ∀ z, wL_lawOf_430 post mc ms x0 x1 x5 x6 x7 x8 x9 z kc ks w a1 a2 a3 a4 a5 a6 a7 a8 a9 := fun z => br_c (fun _ => h2 _ _) (fun _ => h2 _ _)
  exact br_t rfl (br_c (fun _ => h3 _) (fun _ => h3 _))
/-! sides and mid, for the box's sizes -/
theorem lf_m_0 {H a b : Nat} (o : 6 ≤ H ∨ a ≤ 0 ∨ 5 ≤ b) : (decide (H < 6) && decide (0 < a) && decide (b < 5)) = false := by
  rcases o with o | o | o
  · rw [decide_eq_false (show ¬ H < 6 by omega), Bool.false_and, Bool.false_and]
  · rw [decide_eq_false (show ¬ 0 < a by omega), Bool.and_false, Bool.false_and]
  · rw [decide_eq_false (show ¬ b < 5 by omega), Bool.and_false]
theorem lf_m_1 {H a b : Nat} (h1 : H < 6) (h2 : 0 < a) (h3 : b < 5) : (decide (H < 6) && decide (0 < a) && decide (b < 5)) = true := by
  rw [decide_eq_true h1, decide_eq_true h2, decide_eq_true h3]
  rfl
theorem lf_525f (hl : l < 216) (hh : h < 216) (m : Bool) (H : wL_lawOf_559 post mc ms (nI l) (nI h) (nI (lf_w l h)) (nI (lf_d l h)) (nI (lf_h l h)) x8 x9 x19 (lf_b (m || lf_mz l h)) kc ks w a1 a2 a3 a4 a5 a6 a7 a8 a9) : wL_lawOf_525 post mc ms (nI l) (nI h) (nI (lf_w l h)) (nI (lf_d l h)) (nI (lf_h l h)) x8 x9 x19 (lf_b m) kc ks w a1 a2 a3 a4 a5 a6 a7 a8 a9 := by
  have hh6 : lf_h l h ≤ 6 := by
    unfold lf_h
    omega
  cases m
  · have H0 : (6 ≤ lf_h l h ∨ l / 36 ≤ 0 ∨ 5 ≤ h / 36) → wL_lawOf_559 post mc ms (nI l) (nI h) (nI (lf_w l h)) (nI (lf_d l h)) (nI (lf_h l h)) x8 x9 x19 0 kc ks w a1 a2 a3 a4 a5 a6 a7 a8 a9 := fun o => by
      rw [show lf_mz l h = false from lf_m_0 o] at H
      exact H
    have H1 : lf_h l h < 6 → 0 < l / 36 → h / 36 < 5 → wL_lawOf_559 post mc ms (nI l) (nI h) (nI (lf_w l h)) (nI (lf_d l h)) (nI (lf_h l h)) x8 x9 x19 1 kc ks w a1 a2 a3 a4 a5 a6 a7 a8 a9 := fun h1 h2 h3 => by
      rw [show lf_mz l h = true from lf_m_1 h1 h2 h3] at H
      exact H
    exact br_t rfl (pk_le 6 (lf_h l h) (fun z => H0 (Or.inl z)) (fun z1 => ⟨by decide, pk_le (l / 36) 0 (fun z => H0 (Or.inr (Or.inl z))) (fun z2 => ⟨by decide, pk_le 5 (h / 36) (fun z => H0 (Or.inr (Or.inr z))) (fun z3 => H1 z1 z2 z3) rfl (lf_d36 hh)⟩) (lf_d36 hl)⟩))
  · exact br_f (by decide) H
theorem lf_485f (hl : l < 216) (hh : h < 216) (m : Bool) (H : wL_lawOf_525 post mc ms (nI l) (nI h) (nI (lf_w l h)) (nI (lf_d l h)) (nI (lf_h l h)) x8 x9 x19 (lf_b (m || lf_my l h)) kc ks w a1 a2 a3 a4 a5 a6 a7 a8 a9) : wL_lawOf_485 post mc ms (nI l) (nI h) (nI (lf_w l h)) (nI (lf_d l h)) (nI (lf_h l h)) x8 x9 x19 (lf_b m) kc ks w a1 a2 a3 a4 a5 a6 a7 a8 a9 := by
  have hh6 : lf_d l h ≤ 6 := by
    unfold lf_d
    omega
  cases m
  · have H0 : (6 ≤ lf_d l h ∨ l / 6 % 6 ≤ 0 ∨ 5 ≤ h / 6 % 6) → wL_lawOf_525 post mc ms (nI l) (nI h) (nI (lf_w l h)) (nI (lf_d l h)) (nI (lf_h l h)) x8 x9 x19 0 kc ks w a1 a2 a3 a4 a5 a6 a7 a8 a9 := fun o => by
      rw [show lf_my l h = false from lf_m_0 o] at H
      exact H
    have H1 : lf_d l h < 6 → 0 < l / 6 % 6 → h / 6 % 6 < 5 → wL_lawOf_525 post mc ms (nI l) (nI h) (nI (lf_w l h)) (nI (lf_d l h)) (nI (lf_h l h)) x8 x9 x19 1 kc ks w a1 a2 a3 a4 a5 a6 a7 a8 a9 := fun h1 h2 h3 => by
      rw [show lf_my l h = true from lf_m_1 h1 h2 h3] at H
      exact H
    exact br_t rfl (pk_le 6 (lf_d l h) (fun z => H0 (Or.inl z)) (fun z1 => ⟨by decide, by decide, pk_le (l / 6 % 6) 0 (fun z => H0 (Or.inr (Or.inl z))) (fun z2 => ⟨by decide, by decide, pk_le 5 (h / 6 % 6) (fun z => H0 (Or.inr (Or.inr z))) (fun z3 => H1 z1 z2 z3) rfl (lf_d6 hh)⟩) (lf_d6 hl)⟩))
  · exact br_f (by decide) H
theorem lf_455f {z z' : Int32} (hl : l < 216) (hh : h < 216) (e : z' + z = x19) (H : wL_lawOf_485 post mc ms (nI l) (nI h) (nI (lf_w l h)) (nI (lf_d l h)) (nI (lf_h l h)) x8 x9 x19 (lf_b (lf_mx l h)) kc ks w a1 a2 a3 a4 a5 a6 a7 a8 a9) : wL_lawOf_455 post mc ms (nI l) (nI h) (nI (lf_w l h)) (nI (lf_d l h)) (nI (lf_h l h)) x8 x9 z z' kc ks w a1 a2 a3 a4 a5 a6 a7 a8 a9 := by
  have hh6 : lf_w l h ≤ 6 := by
    unfold lf_w
    omega
  have H0 : (6 ≤ lf_w l h ∨ l % 6 ≤ 0 ∨ 5 ≤ h % 6) → wL_lawOf_485 post mc ms (nI l) (nI h) (nI (lf_w l h)) (nI (lf_d l h)) (nI (lf_h l h)) x8 x9 x19 0 kc ks w a1 a2 a3 a4 a5 a6 a7 a8 a9 := fun o => by
    rw [show lf_mx l h = false from lf_m_0 o] at H
    exact H
  have H1 : lf_w l h < 6 → 0 < l % 6 → h % 6 < 5 → wL_lawOf_485 post mc ms (nI l) (nI h) (nI (lf_w l h)) (nI (lf_d l h)) (nI (lf_h l h)) x8 x9 x19 1 kc ks w a1 a2 a3 a4 a5 a6 a7 a8 a9 := fun h1 h2 h3 => by
    rw [show lf_mx l h = true from lf_m_1 h1 h2 h3] at H
    exact H
  exact nm_r e (pk_le 6 (lf_w l h) (fun z => H0 (Or.inl z)) (fun z1 => ⟨by decide, pk_le (l % 6) 0 (fun z => H0 (Or.inr (Or.inl z))) (fun z2 => ⟨by decide, pk_le 5 (h % 6) (fun z => H0 (Or.inr (Or.inr z))) (fun z3 => H1 z1 z2 z3) rfl (lf_m6 hh)⟩) (lf_m6 hl)⟩))
theorem lf_413f {z : Int32} (hl : l < 216) (hh : h < 216) (H : wL_lawOf_559 post mc ms (nI l) (nI h) (nI (lf_w l h)) (nI (lf_d l h)) (nI (lf_h l h)) x8 x9 (nI (lf_sd l h)) (lf_b (lf_mx l h || lf_my l h || lf_mz l h)) kc ks w a1 a2 a3 a4 a5 a6 a7 a8 a9) : wL_lawOf_413 post mc ms (nI l) (nI h) (nI (lf_w l h)) (nI (lf_d l h)) (nI (lf_h l h)) x8 x9 z z kc ks w a1 a2 a3 a4 a5 a6 a7 a8 a9 := by
  have hw6 : lf_w l h ≤ 6 := by
    unfold lf_w
    omega
  have hd6 : lf_d l h ≤ 6 := by
    unfold lf_d
    omega
  have hh6 : lf_h l h ≤ 6 := by
    unfold lf_h
    omega
  have es : lf_b (decide (lf_w l h = 6)) + lf_b (decide (lf_d l h = 6)) + lf_b (decide (lf_h l h = 6)) = nI (lf_sd l h) := by
    rw [lf_bn, lf_bn, lf_bn, nI_add, nI_add]
    rfl
  have k1 : wL_lawOf_455 post mc ms (nI l) (nI h) (nI (lf_w l h)) (nI (lf_d l h)) (nI (lf_h l h)) x8 x9 (lf_b (decide (lf_h l h = 6))) (lf_b (decide (lf_w l h = 6)) + lf_b (decide (lf_d l h = 6))) kc ks w a1 a2 a3 a4 a5 a6 a7 a8 a9 := lf_455f hl hh es (lf_485f hl hh _ (lf_525f hl hh _ H))
  have k2 : wL_lawOf_442 post mc ms (nI l) (nI h) (nI (lf_w l h)) (nI (lf_d l h)) (nI (lf_h l h)) x8 x9 (lf_b (decide (lf_d l h = 6))) (lf_b (decide (lf_w l h = 6))) kc ks w a1 a2 a3 a4 a5 a6 a7 a8 a9 :=
    pk_eq (lf_h l h) 6 (fun z => by rw [decide_eq_true z] at k1; exact k1) (fun z => by rw [decide_eq_false z] at k1; exact k1)
  have k3 : wL_lawOf_430 post mc ms (nI l) (nI h) (nI (lf_w l h)) (nI (lf_d l h)) (nI (lf_h l h)) x8 x9 (lf_b (decide (lf_w l h = 6))) kc ks w a1 a2 a3 a4 a5 a6 a7 a8 a9 :=
    pk_eq (lf_d l h) 6 (fun z => by rw [decide_eq_true z] at k2; exact k2) (fun z => by rw [decide_eq_false z] at k2; exact k2)
  exact br_t rfl (pk_eq (lf_w l h) 6 (fun z => by rw [decide_eq_true z] at k3; exact k3) (fun z => by rw [decide_eq_false z] at k3; exact k3))
/-! what sees the sky, and faces -/
theorem lf_330e {z : Int32} (hV : lf_see B V) (hB : ∀ c, c < 216 → B c = false) (H : ∀ z, wL_lawOf_413 post mc ms x0 x1 x5 x6 x7 x8 0 z z kc ks w (lf_a B) a2 (lf_a V) a4 a5 a6 a7 a8 (lf_a S)) : wL_lawOf_330 post mc ms x0 x1 x5 x6 x7 x8 0 z z kc ks w (lf_a B) a2 (lf_a V) a4 a5 a6 a7 a8 (lf_a S) := by
  refine br_t rfl (lf_open ?_)
  rw [lf_open_0 hV hB]
  refine lf_faces ?_
  rw [lf_faces_0 hB]
  exact br_t rfl (br_t rfl (br_t rfl (H 0)))
theorem lf_330f {z : Int32} (hl : l < 216) (hh : h < 216) (hg : lf_good l h) (hV : lf_see B V) (hB : ∀ c, c < 216 → B c = lf_in l h c)
    (H : ∀ z, wL_lawOf_413 post mc ms (nI l) (nI h) (nI (lf_w l h)) (nI (lf_d l h)) (nI (lf_h l h)) x8 1 z z kc ks w (lf_a B) a2 (lf_a V) a4 a5 a6 a7 a8 (lf_a S)) : wL_lawOf_330 post mc ms (nI l) (nI h) (nI (lf_w l h)) (nI (lf_d l h)) (nI (lf_h l h)) x8 1 z z kc ks w (lf_a B) a2 (lf_a V) a4 a5 a6 a7 a8 (lf_a S) := by
  have ho := lf_open_1 hl hh hg hV hB
  have e1 : 216 - ((nI (lf_w l h) * nI (lf_d l h)) * ((nI h / 36) + 1)) = nI (lf_s (fun c => lf_n (V c)) 216) := by
    rw [lf_d36 hh, nI_1, pk_mul, pk_mul, show (216 : Int32) = nI 216 from rfl, pk_sub (by omega)]
    exact congrArg nI (by omega)
  have e2 : 2 * (((nI (lf_w l h) * nI (lf_d l h)) + (nI (lf_w l h) * nI (lf_h l h))) + (nI (lf_d l h) * nI (lf_h l h))) = nI (lf_s (lf_fs B) 216) := by
    rw [lf_faces_1 hl hh hg hB, pk_mul, pk_mul, pk_mul, nI_add, nI_add, show (2 : Int32) = nI 2 from rfl, pk_mul]
  refine br_t rfl (lf_open (lf_faces (br_f (by decide) ⟨by decide, ?_⟩)))
  rw [e1]
  refine br_t rfl (br_f (by decide) ?_)
  rw [e2]
  exact H _
/-! the cell that is asked for -/
theorem lf_185a (H : ∀ x y z, wL_lawOf_284 post mc ms x0 x1 x3 x5 x6 x7 x8 x9 x12 x y z kc ks w a1 a2 a3 a4 a5 a6 a7 a8 a9) : wL_lawOf_185 post mc ms x0 x1 x3 x5 x6 x7 x8 x9 x12 kc ks w a1 a2 a3 a4 a5 a6 a7 a8 a9 := by
  have h1 : ∀ x y, wL_lawOf_255 post mc ms x0 x1 x3 x5 x6 x7 x8 x9 x12 x y kc ks w a1 a2 a3 a4 a5 a6 a7 a8 a9 := fun x y => ⟨by decide, by decide, br_c (fun _ => H _ _ 0) (fun _ => ⟨by decide, by decide, br_c (fun _ => H _ _ 0) (fun _ => H _ _ 1)⟩)⟩
  have h2 : ∀ x, wL_lawOf_214 post mc ms x0 x1 x3 x5 x6 x7 x8 x9 x12 x kc ks w a1 a2 a3 a4 a5 a6 a7 a8 a9 := fun x => ⟨by decide, by decide, by decide, by decide, br_c (fun _ => h1 _ 0) (fun _ => ⟨by decide, by decide, by decide, by decide, br_c (fun _ => h1 _ 0) (fun _ => h1 _ 1)⟩)⟩
  exact ⟨by decide, by decide, br_c (fun _ => h2 0) (fun _ => ⟨by decide, by decide, br_c (fun _ => h2 0) (fun _ => h2 1)⟩)⟩
theorem lf_185f {c : Nat} (hc : c < 216) (hl : l < 216) (hh : h < 216) (H : wL_lawOf_284 post mc ms (nI l) (nI h) (nI c) x5 x6 x7 x8 x9 x12 (lf_b (lf_iv (l % 6) (h % 6) (c % 6))) (lf_b (lf_iv (l / 6 % 6) (h / 6 % 6) (c / 6 % 6))) (lf_b (lf_iv (l / 36) (h / 36) (c / 36))) kc ks w a1 a2 a3 a4 a5 a6 a7 a8 a9) :
    wL_lawOf_185 post mc ms (nI l) (nI h) (nI c) x5 x6 x7 x8 x9 x12 kc ks w a1 a2 a3 a4 a5 a6 a7 a8 a9 := by
  have h1 : wL_lawOf_255 post mc ms (nI l) (nI h) (nI c) x5 x6 x7 x8 x9 x12 (lf_b (lf_iv (l % 6) (h % 6) (c % 6))) (lf_b (lf_iv (l / 6 % 6) (h / 6 % 6) (c / 6 % 6))) kc ks w a1 a2 a3 a4 a5 a6 a7 a8 a9 := by
    refine ⟨by decide, by decide, pk_lt (c / 36) (l / 36) (fun z => ?_) (fun z => ⟨by decide, by decide, pk_lt (h / 36) (c / 36) (fun t => ?_) (fun t => ?_) (lf_d36 hh) (lf_d36 hc)⟩) (lf_d36 hc) (lf_d36 hl)⟩
    · rw [lf_iv_lo z] at H
      exact H
    · rw [lf_iv_hi t] at H
      exact H
    · rw [lf_iv_in z t] at H
      exact H
  have h2 : wL_lawOf_214 post mc ms (nI l) (nI h) (nI c) x5 x6 x7 x8 x9 x12 (lf_b (lf_iv (l % 6) (h % 6) (c % 6))) kc ks w a1 a2 a3 a4 a5 a6 a7 a8 a9 := by
    refine ⟨by decide, by decide, by decide, by decide, pk_lt (c / 6 % 6) (l / 6 % 6) (fun z => ?_) (fun z => ⟨by decide, by decide, by decide, by decide, pk_lt (h / 6 % 6) (c / 6 % 6) (fun t => ?_) (fun t => ?_) (lf_d6 hh) (lf_d6 hc)⟩) (lf_d6 hc) (lf_d6 hl)⟩
    · rw [lf_iv_lo z] at h1
      exact h1
    · rw [lf_iv_hi t] at h1
      exact h1
    · rw [lf_iv_in z t] at h1
      exact h1
  refine ⟨by decide, by decide, pk_lt (c % 6) (l % 6) (fun z => ?_) (fun z => ⟨by decide, by decide, pk_lt (h % 6) (c % 6) (fun t => ?_) (fun t => ?_) (lf_m6 hh) (lf_m6 hc)⟩) (lf_m6 hc) (lf_m6 hl)⟩
  · rw [lf_iv_lo z] at h2
    exact h2
  · rw [lf_iv_hi t] at h2
    exact h2
  · rw [lf_iv_in z t] at h2
    exact h2
theorem lf_lt215 (x : Int32) : 215 < x ↔ 216 ≤ x := by
  rw [Int32.lt_iff_toInt_lt, Int32.le_iff_toInt_le, show (215 : Int32).toInt = 215 from by decide, show (216 : Int32).toInt = 216 from by decide]
  omega
theorem lf_cellcase (x : Int32) : (x < 0 ∨ 216 ≤ x) ∨ ∃ c, c < 216 ∧ x = nI c := by
  rcases pk_ix x (n := 216) (by decide) with t | t | t
  · exact Or.inl (Or.inl t)
  · exact Or.inl (Or.inr t)
  · exact Or.inr t
theorem lf_164n {z : Int32} (hx : x3 < 0 ∨ 216 ≤ x3) (H : ∀ z, wL_lawOf_330 post mc ms x0 x1 x5 x6 x7 x8 x9 z z kc ks w a1 a2 a3 a4 a5 a6 a7 a8 a9) : wL_lawOf_164 post mc ms x0 x1 x3 x5 x6 x7 x8 x9 z z kc ks w a1 a2 a3 a4 a5 a6 a7 a8 a9 := by
  have h1 : wL_lawOf_185 post mc ms x0 x1 x3 x5 x6 x7 x8 x9 0 kc ks w a1 a2 a3 a4 a5 a6 a7 a8 a9 := lf_185a (fun x y z => lf_solid0 hx (br_t rfl (H (-1))))
  exact br_t rfl (br_c (fun _ => h1) (fun n => br_c (fun _ => h1) (fun n2 => absurd hx (fun o => o.elim n (fun t => n2 ((lf_lt215 x3).mpr t))))))
theorem lf_164c {z : Int32} {c : Nat} (hc : c < 216) (H : wL_lawOf_185 post mc ms x0 x1 (nI c) x5 x6 x7 x8 x9 1 kc ks w a1 a2 a3 a4 a5 a6 a7 a8 a9) : wL_lawOf_164 post mc ms x0 x1 (nI c) x5 x6 x7 x8 x9 z z kc ks w a1 a2 a3 a4 a5 a6 a7 a8 a9 :=
  br_t rfl (br_f (nI_pos (by omega)) (br_f (fun t => absurd ((lf_lt215 _).mp t) (nI_ge (b := 216) hc (by decide))) H))
theorem lf_164e {z : Int32} (hB : ∀ c, c < 216 → B c = false) (H : ∀ z, wL_lawOf_330 post mc ms x0 x1 x5 x6 x7 x8 0 z z kc ks w (lf_a B) a2 a3 a4 a5 a6 a7 a8 a9) : wL_lawOf_164 post mc ms x0 x1 x3 x5 x6 x7 x8 0 z z kc ks w (lf_a B) a2 a3 a4 a5 a6 a7 a8 a9 := by
  rcases lf_cellcase x3 with hx | ⟨c, hc, hx⟩
  · exact lf_164n hx H
  · subst hx
    refine lf_164c hc (lf_185a (fun x y z => lf_solid hc ?_))
    rw [hB c hc]
    exact br_f (by decide) (br_t rfl (H 0))
theorem lf_164f {z : Int32} (hl : l < 216) (hh : h < 216) (hB : ∀ c, c < 216 → B c = lf_in l h c) (H : ∀ z, wL_lawOf_330 post mc ms (nI l) (nI h) x5 x6 x7 x8 1 z z kc ks w (lf_a B) a2 a3 a4 a5 a6 a7 a8 a9) : wL_lawOf_164 post mc ms (nI l) (nI h) x3 x5 x6 x7 x8 1 z z kc ks w (lf_a B) a2 a3 a4 a5 a6 a7 a8 a9 := by
  rcases lf_cellcase x3 with hx | ⟨c, hc, hx⟩
  · exact lf_164n hx H
  · subst hx
    refine lf_164c hc (lf_185f hc hl hh (lf_solid hc ?_))
    rw [hB c hc]
    unfold lf_in
    refine br_f (by decide) (br_f (by decide) ?_)
    cases lf_iv (l % 6) (h % 6) (c % 6)
    · exact br_t rfl (H 0)
    · refine br_f (by decide) ?_
      cases lf_iv (l / 6 % 6) (h / 6 % 6) (c / 6 % 6)
      · exact br_t rfl (H 0)
      · refine br_f (by decide) ?_
        cases lf_iv (l / 36) (h / 36) (c / 36)
        · exact br_t rfl (H 0)
        · exact br_f (by decide) (H 1)
/-! the three roads from the first fill -/
theorem lf_164N {z : Int32} (hp : post 1 ()) (hb : lf_bad x0 x1) (hV : lf_see B V) (hB : ∀ c, c < 216 → B c = false) : wL_lawOf_164 post mc ms x0 x1 x3 x5 x6 x7 0 0 z z kc ks w (lf_a B) a2 (lf_a V) a4 a5 a6 a7 a8 (lf_a S) :=
  lf_164e hB (fun _ => lf_330e hV hB (fun _ => lf_413a (fun _ _ => lf_559e (lf_rooms_0 hB) (fun _ _ _ => lf_606a (fun _ => lf_647n hp hb hB)))))
theorem lf_164E {z : Int32} (hp : post 1 ()) (hl : l < 216) (hh : h < 216) (hg : lf_good l h) (hV : lf_see B V) (hB : ∀ c, c < 216 → B c = false) : wL_lawOf_164 post mc ms (nI l) (nI h) x3 (nI (lf_w l h)) (nI (lf_d l h)) (nI (lf_h l h)) 1 0 z z kc ks w (lf_a B) a2 (lf_a V) a4 a5 a6 a7 a8 (lf_a S) :=
  lf_164e hB (fun _ => lf_330e hV hB (fun _ => lf_413a (fun _ _ => lf_559e (lf_rooms_0 hB) (fun _ _ _ => lf_606g hl hh (lf_647e hp hl hh hg hV hB (by rw [pk_mul, pk_mul]) rfl)))))
theorem lf_164F {z : Int32} (hp : post 1 ()) (hl : l < 216) (hh : h < 216) (hg : lf_good l h) (hV : lf_see B V) (hB : ∀ c, c < 216 → B c = lf_in l h c) : wL_lawOf_164 post mc ms (nI l) (nI h) x3 (nI (lf_w l h)) (nI (lf_d l h)) (nI (lf_h l h)) 1 1 z z kc ks w (lf_a B) a2 (lf_a V) a4 a5 a6 a7 a8 (lf_a S) := by
  obtain ⟨cm, hm⟩ := lf_roomsK hl hh hg hB
  exact lf_164f hl hh hB (fun _ => lf_330f hl hh hg hV hB (fun _ => lf_413f hl hh (lf_559f hm (fun _ _ _ _ => lf_606g hl hh (lf_647f hp hl hh hg hV hB (by rw [pk_mul, pk_mul]))))))
end
/-! the object -/
theorem lf_init {post : St2 → Prop} {w : Int32} (H : ∀ V a4, (∀ c, c < 216 → V c = true) → post (w, lf_a (fun _ => false), (fun _ => 0), lf_a V, a4, (fun _ => 0), (fun _ => 0), (fun _ => 0), (fun _ => 0), lf_a (fun _ => false))) : wpX_init post 9 2808 w := by
  refine ⟨by decide, by decide, by decide, by decide, by decide, by decide, by decide, by decide, by decide, by decide, by decide, by decide, by decide, by decide, by decide, by decide, by decide, by decide, ?_⟩
  refine pk_loop (σ := (Nat → Bool) × (Nat → Int32)) (fun n i s => wX_init_87 post 9 2808 9 2808 w n (nI i) (lf_a (fun _ => false)) (fun _ => 0) (lf_a s.1) s.2 (fun _ => 0) (fun _ => 0) (fun _ => 0) (fun _ => 0) (lf_a (fun _ => false))) (fun i s => ∀ c, c < i → s.1 c = true) 216 0 (fun _ => false, fun _ => 0) (by omega) (fun c hc => absurd hc (by omega)) ?_ ?_
  · intro n s hs
    exact pk_le 216 216 (fun _ => H s.1 s.2 hs) (fun z => absurd z (by omega))
  · intro n i s hi hs hw
    obtain ⟨V, a4⟩ := s
    refine pk_le 216 i (fun z => absurd z (by omega)) (fun _ => ⟨pk_in i 216 hi, nm_r (e' := lf_a (lf_up V i true)) ?_ ⟨pk_in (216 + i) 432 (by omega) (nI_add 216 i), nm_e (nm_r (nI_1 i) (hw (lf_up V i true, _) (fun c hc => ?_)))⟩⟩)
    · rw [nI_clamp (by omega), lf_up1]
    · show lf_up V i true c = true
      by_cases e : c = i
      · rw [e, lf_up_s]
      · rw [lf_up_n e]
        exact hs c (by omega)
theorem lf_see_init {V : Nat → Bool} (h : ∀ c, c < 216 → V c = true) : lf_see (fun _ => false) V := by
  intro c hc
  show V c = (!false && (decide (180 ≤ c) || V (c + 36)))
  rw [h c hc]
  by_cases t : 180 ≤ c
  · rw [decide_eq_true t]
    rfl
  · rw [h (c + 36) (by omega), Bool.or_true]
    rfl
section
variable {post : Int32 → St0 → Prop} {x0 x1 x2 x3 x5 x6 x7 : Int32} {l h : Nat}
theorem lf_115N (hp : post 1 ()) (hb : lf_bad x0 x1) : wL_lawOf_115 post 1024 16384 x0 x1 x2 x3 x5 x6 x7 0 0 0 0 := by
  refine ⟨by omega, by omega, 9, 2808, by omega, by omega, lf_init (fun V a4 hV => ?_)⟩
  exact lf_fillN hb (br_t rfl (lf_164N hp hb (lf_see_init hV) (fun _ _ => rfl)))
theorem lf_115E (hp : post 1 ()) (hl : l < 216) (hh : h < 216) (hg : lf_good l h) : wL_lawOf_115 post 1024 16384 (nI l) (nI h) 0 x3 (nI (lf_w l h)) (nI (lf_d l h)) (nI (lf_h l h)) 1 0 0 0 := by
  refine ⟨by omega, by omega, 9, 2808, by omega, by omega, lf_init (fun V a4 hV => ?_)⟩
  refine lf_fill (f := false) hl hh hg ⟨fun _ => rfl, fun _ => rfl⟩ (lf_see_init hV) (fun w B V a4 a5 a6 a7 hV2 e1 e2 => ?_)
  rw [lf_s_0 (fun c hc => lf_ch0 (fun _ => rfl))]
  refine br_f (by decide) (br_t rfl (lf_164E hp hl hh hg hV2 (fun c hc => ?_)))
  cases t : lf_in l h c
  · exact e2 c hc t
  · exact e1 c hc t
theorem lf_115F (hp : post 1 ()) (hx : ¬ x2 = 0) (hl : l < 216) (hh : h < 216) (hg : lf_good l h) : wL_lawOf_115 post 1024 16384 (nI l) (nI h) x2 x3 (nI (lf_w l h)) (nI (lf_d l h)) (nI (lf_h l h)) 1 1 0 0 := by
  refine ⟨by omega, by omega, 9, 2808, by omega, by omega, lf_init (fun V a4 hV => ?_)⟩
  refine lf_fill (f := true) hl hh hg ⟨fun t => absurd t hx, fun t => absurd t (by decide)⟩ (lf_see_init hV) (fun w B V a4 a5 a6 a7 hV2 e1 e2 => ?_)
  have c1 : lf_s (lf_ch (lf_in l h) (fun _ => false) true) 216 = lf_w l h * lf_d l h * lf_h l h := by
    rw [← lf_c_box hl hh hg]
    refine lf_s_congr (fun c hc => ?_)
    unfold lf_ch
    exact congrArg lf_n (Bool.and_true _)
  rw [c1]
  refine br_f (by decide) (br_f (by decide) ?_)
  rw [pk_mul, pk_mul]
  refine lf_164F hp hl hh hg hV2 (fun c hc => ?_)
  cases t : lf_in l h c
  · exact e2 c hc t
  · exact e1 c hc t
theorem lf_98N (hp : post 1 ()) (hb : lf_bad x0 x1) : wL_lawOf_98 post 1024 16384 x0 x1 x2 x3 x5 x6 x7 0 0 := br_t rfl (lf_115N hp hb)
theorem lf_26N (hp : post 1 ()) (hb : lf_bad x0 x1) : wL_lawOf_26 post 1024 16384 x0 x1 x2 x3 0 0 :=
  ⟨by decide, by decide, nm_e ⟨by decide, by decide, by decide, by decide, nm_e ⟨by decide, by decide, nm_e (br_t rfl (lf_98N hp hb))⟩⟩⟩
theorem lf_size1 {a b : Nat} (hab : b ≤ a) : nI a - nI b + 1 = nI (a + 1 - b) := by
  rw [pk_sub hab, nI_1]
  exact congrArg nI (by omega)
theorem lf_size0 {a b : Nat} (hab : a < b) (hb : b < 216) : nI a - nI b + 1 ≤ 0 := by
  rw [Int32.le_iff_toInt_le, Int32.toInt_add, pk_sub_toInt (by omega) (by omega), show (1 : Int32).toInt = 1 from by decide, show (0 : Int32).toInt = 0 from by decide, Int.bmod_eq_of_le (by omega) (by omega)]
  omega
theorem lf_27 (hp : post 1 ()) (hl : l < 216) (hh : h < 216) : wL_lawOf_27 post 1024 16384 (nI l) (nI h) x2 x3 1 0 0 := by
  refine ⟨by decide, by decide, nm_r (e' := nI (h % 6) - nI (l % 6) + 1) (by rw [lf_m6 hl, lf_m6 hh]) ⟨by decide, by decide, by decide, by decide, nm_r (e' := nI (h / 6 % 6) - nI (l / 6 % 6) + 1) (by rw [lf_d6 hl, lf_d6 hh]) ⟨by decide, by decide, nm_r (e' := nI (h / 36) - nI (l / 36) + 1) (by rw [lf_d36 hl, lf_d36 hh]) (br_f (by decide) ?_)⟩⟩⟩
  by_cases hg : lf_good l h
  · have h1 : nI (h % 6) - nI (l % 6) + 1 = nI (lf_w l h) := lf_size1 hg.1
    have h2 : nI (h / 6 % 6) - nI (l / 6 % 6) + 1 = nI (lf_d l h) := lf_size1 hg.2.1
    have h3 : nI (h / 36) - nI (l / 36) + 1 = nI (lf_h l h) := lf_size1 hg.2.2
    have w1 : 0 < lf_w l h ∧ lf_w l h < 7 := by
      have := hg.1
      unfold lf_w
      omega
    have w2 : 0 < lf_d l h ∧ lf_d l h < 7 := by
      have := hg.2.1
      unfold lf_d
      omega
    have w3 : 0 < lf_h l h ∧ lf_h l h < 7 := by
      have := hg.2.2
      unfold lf_h
      omega
    rw [h1, h2, h3]
    refine br_f (nI_nle w1.1 (by omega)) (br_f (nI_nle w2.1 (by omega)) (br_f (nI_nle w3.1 (by omega)) (br_f (by decide) (br_c (fun e => ?_) (fun e => ?_)))))
    · subst e
      exact lf_115E hp hl hh hg
    · exact lf_115F hp e hl hh hg
  · have hb : lf_bad (nI l) (nI h) := fun post H => lf_box hl hh (fun _ => H) (fun t => absurd t hg)
    refine br_c (fun _ => lf_98N hp hb) (fun n1 => br_c (fun _ => lf_98N hp hb) (fun n2 => br_c (fun _ => lf_98N hp hb) (fun n3 => absurd ?_ hg)))
    refine ⟨?_, ?_, ?_⟩
    · exact Nat.not_lt.mp (fun t => n1 (lf_size0 t (by omega)))
    · exact Nat.not_lt.mp (fun t => n2 (lf_size0 t (by omega)))
    · exact Nat.not_lt.mp (fun t => n3 (lf_size0 t (by omega)))
theorem lf_lawOf (hp : post 1 ()) : wpL_lawOf post 1024 16384 () x0 x1 x2 x3 := by
  by_cases hc : (x0 < 0 ∨ 216 ≤ x0) ∨ (x1 < 0 ∨ 216 ≤ x1)
  · have hb : lf_bad x0 x1 := fun post H => lf_box0 hc H
    have k : wL_lawOf_26 post 1024 16384 x0 x1 x2 x3 0 0 := lf_26N hp hb
    refine br_c (fun _ => k) (fun n1 => br_c (fun _ => k) (fun n2 => br_c (fun _ => k) (fun n3 => br_c (fun _ => k) (fun n4 => ?_))))
    rw [lf_lt215] at n2 n4
    exact absurd hc (fun o => o.elim (fun o => o.elim n1 n2) (fun o => o.elim n3 n4))
  · rcases lf_cellcase x0 with t | ⟨l, hl, e1⟩
    · exact absurd (Or.inl t) hc
    · rcases lf_cellcase x1 with t | ⟨h, hh, e2⟩
      · exact absurd (Or.inr t) hc
      · subst e1 e2
        exact br_f (nI_pos (by omega)) (br_f (fun t => absurd ((lf_lt215 _).mp t) (nI_ge (b := 216) hl (by decide))) (br_f (nI_pos (by omega)) (br_f (fun t => absurd ((lf_lt215 _).mp t) (nI_ge (b := 216) hh (by decide))) (lf_27 hp hl hh))))
end
theorem lf_cellAt {post : Int32 → Prop} {L : Nat} {xs : Nat → Int32} {u : St0} {x : Int32} (i : Nat) (hi : i < 4) (hL : L ≤ 4) (hx : x = nI i) (H : ∀ r, post r) : wpL_cellAt post L xs u x :=
  pk_le L i (fun _ => H 0) (fun z => ⟨pk_in i L z hx, H _⟩) rfl hx
end
section
theorem i_vc (xs : Nat → Int32) (L : Nat) (hL : L ≤ 4) : wpL_law (fun r => r = 1) L xs :=
  lf_cellAt 0 (by decide) hL rfl (fun _ => lf_cellAt 1 (by decide) hL rfl (fun _ => lf_cellAt 2 (by decide) hL rfl (fun _ => lf_cellAt 3 (by decide) hL rfl (fun _ => ⟨1024, 16384, by omega, by omega, lf_lawOf rfl⟩))))
end
