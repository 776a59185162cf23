section
theorem pk_us {f : Nat → Int32} {k : Nat} {x : Int32} : upd f k x k = x := if_pos rfl
theorem pk_un {f : Nat → Int32} {k j : Nat} {x : Int32} (h : j ≠ k) : upd f k x j = f j := if_neg h
theorem pk_sub {a b : Nat} (h : b ≤ a) : nI a - nI b = nI (a - b) := by
  obtain ⟨c, rfl⟩ : ∃ c, a = c + b := ⟨a - b, by omega⟩
  rw [← nI_add, Int32.add_sub_cancel, Nat.add_sub_cancel]
theorem pk_m1 (n : Nat) : nI (n + 1) + (-1) = nI n := by
  rw [← nI_1, Int32.add_assoc, show (1 : Int32) + (-1) = 0 from rfl, Int32.add_zero]
theorem pk_mul (a b : Nat) : nI a * nI b = nI (a * b) := (Int32.ofNat_mul a b).symm
theorem pk_div {a d : Nat} (ha : a < 2 ^ 31) (h0 : 0 < d) (hd : d < 2 ^ 31) : nI a / nI d = nI (a / d) := by
  apply Int32.toInt_inj.mp
  rw [lg_idiv_nonneg (by rw [nI_toInt ha]; omega) (by rw [nI_toInt hd]; omega), nI_toInt ha, nI_toInt hd, nI_toInt (Nat.lt_of_le_of_lt (Nat.div_le_self a d) ha)]
  first | rfl | exact (Int.natCast_ediv _ _).symm
theorem pk_rem {a d : Nat} (ha : a < 2 ^ 31) (h0 : 0 < d) (hd : d < 2 ^ 31) : nI a - nI a / nI d * nI d = nI (a % d) := by
  rw [pk_div ha h0 hd, pk_mul, pk_sub (Nat.div_mul_le_self a d)]
  exact congrArg nI (by have := Nat.div_add_mod' a d; omega)
theorem pk_ix (x : Int32) {n : Nat} (hn : n < 2 ^ 31) : x < 0 ∨ nI n ≤ x ∨ ∃ j : Nat, j < n ∧ x = nI j := by
  by_cases h : x < 0
  · exact Or.inl h
  · obtain ⟨j, hj, rfl⟩ := nI_of h
    by_cases h2 : j < n
    · exact Or.inr (Or.inr ⟨j, h2, rfl⟩)
    · exact Or.inr (Or.inl (nI_le (by omega) hj))
theorem pk_le {x y : Int32} {A B : Prop} (a b : Nat) (f : a ≤ b → A) (g : b < a → B) (hx : x = nI a := by rfl) (hy : y = nI b := by rfl) (ha : a < 2 ^ 31 := by omega) (hb : b < 2 ^ 31 := by omega) : (x ≤ y → A) ∧ (¬ x ≤ y → B) := by
  subst hx hy
  rw [nI_leI ha hb]
  exact ⟨f, fun z => g (by omega)⟩
theorem pk_lt {x y : Int32} {A B : Prop} (a b : Nat) (f : a < b → A) (g : b ≤ a → B) (hx : x = nI a := by rfl) (hy : y = nI b := by rfl) (ha : a < 2 ^ 31 := by omega) (hb : b < 2 ^ 31 := by omega) : (x < y → A) ∧ (¬ x < y → B) := by
  subst hx hy
  rw [nI_ltI ha hb]
  exact ⟨f, fun z => g (by omega)⟩
theorem pk_eq {x y : Int32} {A B : Prop} (a b : Nat) (f : a = b → A) (g : a ≠ b → B) (hx : x = nI a := by rfl) (hy : y = nI b := by rfl) (ha : a < 2 ^ 31 := by omega) (hb : b < 2 ^ 31 := by omega) : (x = y → A) ∧ (¬ x = y → B) := by
  subst hx hy
  rw [nI_eq ha hb]
  exact ⟨f, g⟩
theorem pk_in {x : Int32} (n N : Nat) (h : n < N) (hx : x = nI n := by rfl) (hN : N < 2 ^ 31 := by omega) : vp_in x N := by
  subst hx
  exact vp_in_nI h hN
theorem pk_cl {x : Int32} (n : Nat) (hx : x = nI n := by rfl) (h : n < 2 ^ 31 := by omega) : x.toNatClampNeg = n := by
  subst hx
  exact nI_clamp h
end
section
def zl_u {α : Type} (f : Nat → α) (k : Nat) (x : α) : Nat → α := fun j => if j = k then x else f j
theorem zl_us {α : Type} {f : Nat → α} {k : Nat} {x : α} : zl_u f k x k = x := if_pos rfl
theorem zl_un {α : Type} {f : Nat → α} {k j : Nat} {x : α} (h : j ≠ k) : zl_u f k x j = f j := if_neg h
theorem zl_uid {α : Type} {f : Nat → α} {k : Nat} {x : α} (h : f k = x) : zl_u f k x = f := by
  funext j
  by_cases e : j = k
  · rw [e, zl_us, h]
  · rw [zl_un e]
def zl_fi {α : Type} (x : α) (i n : Nat) (a : Nat → α) : Nat → α := fun j => if i ≤ j ∧ j < n then x else a j
theorem zl_fi_e {α : Type} {x : α} {n : Nat} {a : Nat → α} : zl_fi x n n a = a := by
  funext j
  exact if_neg (by omega)
theorem zl_fi_s {α : Type} {x : α} {i n : Nat} {a : Nat → α} (h : i < n) : zl_fi x (i + 1) n (zl_u a i x) = zl_fi x i n a := by
  funext j
  unfold zl_fi
  by_cases e : j = i
  · rw [if_neg (by omega), if_pos (by omega), e, zl_us]
  · rw [zl_un e]
    by_cases k : i + 1 ≤ j ∧ j < n
    · rw [if_pos k, if_pos (by omega)]
    · rw [if_neg k, if_neg (by omega)]
theorem zl_fi_lt {α : Type} {x : α} {n j : Nat} {a : Nat → α} (h : j < n) : zl_fi x 0 n a j = x := if_pos (by omega)
theorem zl_fi_ge {α : Type} {x : α} {i n j : Nat} {a : Nat → α} (h : n ≤ j) : zl_fi x i n a j = a j := if_neg (by omega)
def zl_cp {α : Type} (s : Nat → α) (i n : Nat) (a : Nat → α) : Nat → α := fun j => if i ≤ j ∧ j < n then s j else a j
theorem zl_cp_e {α : Type} {s : Nat → α} {n : Nat} {a : Nat → α} : zl_cp s n n a = a := by
  funext j
  exact if_neg (by omega)
theorem zl_cp_s {α : Type} {s : Nat → α} {i n : Nat} {a : Nat → α} (h : i < n) : zl_cp s (i + 1) n (zl_u a i (s i)) = zl_cp s i n a := by
  funext j
  unfold zl_cp
  by_cases e : j = i
  · rw [if_neg (by omega), if_pos (by omega), e, zl_us]
  · rw [zl_un e]
    by_cases k : i + 1 ≤ j ∧ j < n
    · rw [if_pos k, if_pos (by omega)]
    · rw [if_neg k, if_neg (by omega)]
theorem zl_cp_lt {α : Type} {s : Nat → α} {n j : Nat} {a : Nat → α} (h : j < n) : zl_cp s 0 n a j = s j := if_pos (by omega)
def zl_cn (f : Nat → Nat) : Nat → Nat
  | 0 => 0
  | n + 1 => zl_cn f n + f n
theorem zl_cn_d {f : Nat → Nat} (i d : Nat) : zl_cn f i ≤ zl_cn f (i + d) := by
  induction d with
  | zero => exact Nat.le_refl _
  | succ d ih => exact Nat.le_trans ih (Nat.le_add_right _ _)
theorem zl_cn_m {f : Nat → Nat} {i j : Nat} (h : i ≤ j) : zl_cn f i ≤ zl_cn f j := by
  obtain ⟨d, rfl⟩ : ∃ d, j = i + d := ⟨j - i, by omega⟩
  exact zl_cn_d i d
theorem zl_cn_b {f : Nat → Nat} (h : ∀ j, f j ≤ 1) (n : Nat) : zl_cn f n ≤ n := by
  induction n with
  | zero => exact Nat.le_refl _
  | succ n ih =>
    have := h n
    show zl_cn f n + f n ≤ n + 1
    omega
theorem zl_cn_c {f e : Nat → Nat} (n : Nat) (h : ∀ j, j < n → f j = e j) : zl_cn f n = zl_cn e n := by
  induction n with
  | zero => rfl
  | succ n ih =>
    show zl_cn f n + f n = zl_cn e n + e n
    rw [ih (fun j hj => h j (by omega)), h n (by omega)]
theorem zl_cn_0 {f : Nat → Nat} {n : Nat} (h : zl_cn f n = 0) {j : Nat} (hj : j < n) : f j = 0 := by
  have h1 : zl_cn f (j + 1) ≤ zl_cn f n := zl_cn_m (by omega)
  have h2 : zl_cn f (j + 1) = zl_cn f j + f j := rfl
  omega
theorem zl_cn_z {f : Nat → Nat} (n : Nat) (h : ∀ j, j < n → f j = 0) : zl_cn f n = 0 := by
  induction n with
  | zero => rfl
  | succ n ih =>
    show zl_cn f n + f n = 0
    rw [ih (fun j hj => h j (by omega)), h n (by omega)]
theorem zl_cn_p {f : Nat → Nat} {n : Nat} (h : 0 < zl_cn f n) : ∃ j, j < n ∧ 0 < f j := by
  induction n with
  | zero => exact absurd h (Nat.lt_irrefl 0)
  | succ n ih =>
    have e : zl_cn f (n + 1) = zl_cn f n + f n := rfl
    by_cases k : 0 < f n
    · exact ⟨n, by omega, k⟩
    · obtain ⟨j, hj, h2⟩ := ih (by omega)
      exact ⟨j, by omega, h2⟩
def zl_d (v : Int32) : Nat := if v = 0 then 0 else 1
def zl_df (di : Nat → Int32) : Nat → Nat := fun j => zl_d (di j)
theorem zl_d1 (v : Int32) : zl_d v ≤ 1 := by
  unfold zl_d
  split <;> omega
theorem zl_df1 (di : Nat → Int32) (j : Nat) : zl_df di j ≤ 1 := zl_d1 _
theorem zl_dfn {di : Nat → Int32} {j : Nat} (h : ¬ di j = 0) : zl_df di j = 1 := if_neg h
theorem zl_dfz {di : Nat → Int32} {j : Nat} (h : di j = 0) : zl_df di j = 0 := if_pos h
theorem zl_df_0 {di : Nat → Int32} {j : Nat} (h : zl_df di j = 0) : di j = 0 := by
  by_cases k : di j = 0
  · exact k
  · rw [zl_dfn k] at h
    omega
theorem zl_dall {di : Nat → Int32} (h : zl_cn (zl_df di) 16 = 0) (h2 : ∀ j, 16 ≤ j → di j = 0) : di = fun _ => 0 := by
  funext j
  by_cases k : j < 16
  · exact zl_df_0 (zl_cn_0 h k)
  · exact h2 j (by omega)
theorem zl_d16 {di : Nat → Int32} : zl_cn (zl_df di) 16 ≤ 16 := zl_cn_b (zl_df1 di) 16
def zl_iz (t : Option Nat) (z : Nat) : Nat := match t with
  | none => 0
  | some p => if p / 12 = z then 1 else 0
def zl_lf (T : Nat → Option Nat) (z : Nat) : Nat → Nat := fun b => zl_iz (T b) z
theorem zl_iz1 (t : Option Nat) (z : Nat) : zl_iz t z ≤ 1 := by
  cases t with
  | none => exact Nat.zero_le _
  | some p =>
    show (if p / 12 = z then 1 else 0) ≤ 1
    split <;> omega
theorem zl_lf1 (T : Nat → Option Nat) (z j : Nat) : zl_lf T z j ≤ 1 := zl_iz1 _ _
theorem zl_lfy {T : Nat → Option Nat} {z b p : Nat} (h : T b = some p) (e : p / 12 = z) : zl_lf T z b = 1 := by
  show zl_iz (T b) z = 1
  rw [h]
  exact if_pos e
theorem zl_lfn {T : Nat → Option Nat} {z b p : Nat} (h : T b = some p) (e : ¬ p / 12 = z) : zl_lf T z b = 0 := by
  show zl_iz (T b) z = 0
  rw [h]
  exact if_neg e
theorem zl_lf0 {T : Nat → Option Nat} {z b : Nat} (h : T b = none) : zl_lf T z b = 0 := by
  show zl_iz (T b) z = 0
  rw [h]
  rfl
theorem zl_lv16 (T : Nat → Option Nat) (z : Nat) : zl_cn (zl_lf T z) 16 ≤ 16 := zl_cn_b (zl_lf1 T z) 16
theorem zl_six (t : Option Nat) : zl_iz t 0 + zl_iz t 1 + zl_iz t 2 + zl_iz t 3 + zl_iz t 4 + zl_iz t 5 ≤ 1 := by
  cases t with
  | none => exact Nat.zero_le _
  | some p =>
    show (if p / 12 = 0 then 1 else 0) + (if p / 12 = 1 then 1 else 0) + (if p / 12 = 2 then 1 else 0) + (if p / 12 = 3 then 1 else 0) + (if p / 12 = 4 then 1 else 0) + (if p / 12 = 5 then 1 else 0) ≤ 1
    generalize p / 12 = y
    split <;> split <;> split <;> split <;> split <;> split <;> omega
theorem zl_pig (T : Nat → Option Nat) (n : Nat) : zl_cn (zl_lf T 0) n + zl_cn (zl_lf T 1) n + zl_cn (zl_lf T 2) n + zl_cn (zl_lf T 3) n + zl_cn (zl_lf T 4) n + zl_cn (zl_lf T 5) n ≤ n := by
  induction n with
  | zero => exact Nat.le_refl _
  | succ n ih =>
    have h := zl_six (T n)
    show (zl_cn (zl_lf T 0) n + zl_iz (T n) 0) + (zl_cn (zl_lf T 1) n + zl_iz (T n) 1) + (zl_cn (zl_lf T 2) n + zl_iz (T n) 2) + (zl_cn (zl_lf T 3) n + zl_iz (T n) 3) + (zl_cn (zl_lf T 4) n + zl_iz (T n) 4) + (zl_cn (zl_lf T 5) n + zl_iz (T n) 5) ≤ n + 1
    omega
theorem zl_poor {T : Nat → Option Nat} {a z : Nat} (ha : a < 6) (h : ∀ y, y < 6 → y ≠ a → zl_cn (zl_lf T z) 16 ≤ zl_cn (zl_lf T y) 16) : zl_cn (zl_lf T z) 16 ≤ 3 := by
  have p := zl_pig T 16
  have h0 := h 0 (by omega)
  have h1 := h 1 (by omega)
  have h2 := h 2 (by omega)
  have h3 := h 3 (by omega)
  have h4 := h 4 (by omega)
  have h5 := h 5 (by omega)
  clear h
  rcases (by omega : a = 0 ∨ a = 1 ∨ a = 2 ∨ a = 3 ∨ a = 4 ∨ a = 5) with rfl | rfl | rfl | rfl | rfl | rfl
  · have := h1 (by omega); have := h2 (by omega); have := h3 (by omega); have := h4 (by omega); have := h5 (by omega); omega
  · have := h0 (by omega); have := h2 (by omega); have := h3 (by omega); have := h4 (by omega); have := h5 (by omega); omega
  · have := h0 (by omega); have := h1 (by omega); have := h3 (by omega); have := h4 (by omega); have := h5 (by omega); omega
  · have := h0 (by omega); have := h1 (by omega); have := h2 (by omega); have := h4 (by omega); have := h5 (by omega); omega
  · have := h0 (by omega); have := h1 (by omega); have := h2 (by omega); have := h3 (by omega); have := h5 (by omega); omega
  · have := h0 (by omega); have := h1 (by omega); have := h2 (by omega); have := h3 (by omega); have := h4 (by omega); omega
def zl_ef (O : Nat → Option Nat) : Nat → Nat := fun z => match O z with
  | none => 1
  | some _ => 0
theorem zl_efn {O : Nat → Option Nat} {z : Nat} (h : O z = none) : zl_ef O z = 1 := by
  unfold zl_ef
  rw [h]
theorem zl_efs {O : Nat → Option Nat} {z n : Nat} (h : O z = some n) : zl_ef O z = 0 := by
  unfold zl_ef
  rw [h]
theorem zl_ef1 (O : Nat → Option Nat) (z : Nat) : zl_ef O z ≤ 1 := by
  cases h : O z with
  | none => rw [zl_efn h]; exact Nat.le_refl _
  | some n => rw [zl_efs h]; exact Nat.zero_le _
end
section
def zl_va (F : Nat → Nat) (p : Nat) : Prop := p < 72 ∧ p % 12 < F (p / 12)
def zl_mk (F B G : Nat → Nat) (n : Nat) : Prop := ∃ p, zl_va F p ∧ B p = 16 ∧ G p = n
def zl_dev (F : Nat → Nat) (O : Nat → Option Nat) (B G : Nat → Nat) (g o : Nat) : Prop :=
  (∀ z, z < 6 → F z ≤ 12) ∧ (∀ z, z < 6 → O z = none → F z = 0) ∧ (∀ p, zl_va F p → G p ≤ g ∧ B p ≤ 16) ∧
  (∀ p q, zl_va F p → zl_va F q → G p = G q → p / 12 = q / 12 ∧ (B p = B q → p = q)) ∧ (∀ z n, z < 6 → O z = some n → n ≤ o)
def zl_tab (F B G : Nat → Nat) (T : Nat → Option Nat) (n : Nat) : Prop := ∀ b, b < 16 →
  (T b = none → ∀ q, q < n → zl_va F q → B q = b → ¬ zl_mk F B G (G q)) ∧
  (∀ p, T b = some p → zl_va F p ∧ B p = b ∧ zl_mk F B G (G p) ∧ ∀ q, q < n → zl_va F q → B q = b → zl_mk F B G (G q) → G q ≤ G p)
def zl_vl (V : Nat → Int32) (t : Option Nat) : Int32 := match t with
  | none => 0
  | some p => V p
def zl_act (O : Nat → Option Nat) (A : Option Nat) : Prop := ∀ a, A = some a → a < 6 ∧ O a ≠ none
def zl_emp (O : Nat → Option Nat) : Prop := ∃ z, z < 6 ∧ O z = none
def zl_pd (F B G : Nat → Nat) (a g i : Nat) (P : Nat → Prop) : Prop := ∀ p, zl_va F p → G p = g → p / 12 = a ∧ B p < i ∧ P (B p)
def zl_nt (F B : Nat → Nat) (V : Nat → Int32) (G : Nat → Nat) (g i : Nat) (P : Nat → Prop) (w : Nat → Int32) (T N : Nat → Option Nat) : Prop := ∀ b, b < 16 →
  (b < i → P b → ∃ p, N b = some p ∧ zl_va F p ∧ B p = b ∧ G p = g ∧ V p = w b) ∧ (¬ (b < i ∧ P b) → N b = T b)
def zl_vv (V : Nat → Int32) (T : Nat → Option Nat) (kp : Nat → Int32) : Prop := ∀ b, b < 16 → kp b = zl_vl V (T b)
theorem zl_at {a f : Nat} (ha : a < 6) (hf : f < 12) : 12 * a + f < 72 ∧ (12 * a + f) / 12 = a ∧ (12 * a + f) % 12 = f :=
  ⟨by omega, by omega, by omega⟩
section
variable {F B G : Nat → Nat} {V : Nat → Int32} {O T N : Nat → Option Nat} {a g o b i n p : Nat} {P : Nat → Prop} {w kp : Nat → Int32} {x : Int32}
theorem zl_va1 (ha : a < 6) (hf : F a < 12) : zl_va (zl_u F a (F a + 1)) p ↔ zl_va F p ∨ p = 12 * a + F a := by
  unfold zl_va
  by_cases h : p / 12 = a
  · rw [h, zl_us]
    constructor
    · intro k
      by_cases e : p % 12 < F a
      · exact Or.inl ⟨k.1, e⟩
      · exact Or.inr (by omega)
    · intro k
      rcases k with k | k
      · exact ⟨k.1, by omega⟩
      · exact ⟨by omega, by omega⟩
  · rw [zl_un h]
    constructor
    · intro k
      exact Or.inl k
    · intro k
      rcases k with k | k
      · exact k
      · exact absurd (by omega : p / 12 = a) h
theorem zl_nva (ha : a < 6) (hf : F a < 12) : ¬ zl_va F (12 * a + F a) := by
  intro h
  have h2 := h.2
  rw [(zl_at ha hf).2.1, (zl_at ha hf).2.2] at h2
  omega
theorem zl_vne (ha : a < 6) (hf : F a < 12) (h : zl_va F p) : p ≠ 12 * a + F a := by
  intro e
  rw [e] at h
  exact zl_nva ha hf h
theorem zl_app (hd : zl_dev F O B G g o) (ha : a < 6) (hO : O a ≠ none) (hf : F a < 12) (hb : b ≤ 16)
    (hn : ∀ p, zl_va F p → G p = g → p / 12 = a ∧ B p ≠ b) : zl_dev (zl_u F a (F a + 1)) O (zl_u B (12 * a + F a) b) (zl_u G (12 * a + F a) g) g o := by
  obtain ⟨d1, d2, d3, d4, d5⟩ := hd
  refine ⟨fun z hz => ?_, fun z hz e => ?_, fun p hp => ?_, fun p q hp hq e => ?_, d5⟩
  · by_cases k : z = a
    · rw [k, zl_us]; omega
    · rw [zl_un k]; exact d1 z hz
  · have k : z ≠ a := fun k => hO (k ▸ e)
    rw [zl_un k]
    exact d2 z hz e
  · rcases (zl_va1 ha hf).mp hp with h | rfl
    · rw [zl_un (zl_vne ha hf h), zl_un (zl_vne ha hf h)]
      exact d3 p h
    · rw [zl_us, zl_us]
      exact ⟨Nat.le_refl _, hb⟩
  · rcases (zl_va1 ha hf).mp hp with h | rfl
    · rw [zl_un (zl_vne ha hf h)] at e ⊢
      rcases (zl_va1 ha hf).mp hq with k | rfl
      · rw [zl_un (zl_vne ha hf k)] at e ⊢
        exact d4 p q h k e
      · rw [zl_us] at e ⊢
        rw [(zl_at ha hf).2.1]
        exact ⟨(hn p h e).1, fun c => absurd c (hn p h e).2⟩
    · rw [zl_us] at e ⊢
      rcases (zl_va1 ha hf).mp hq with k | rfl
      · rw [zl_un (zl_vne ha hf k)] at e ⊢
        rw [(zl_at ha hf).2.1]
        exact ⟨(hn q k e.symm).1.symm, fun c => absurd c.symm (hn q k e.symm).2⟩
      · exact ⟨rfl, fun _ => rfl⟩
theorem zl_mkA (ha : a < 6) (hf : F a < 12) (hb : b ≠ 16) : zl_mk (zl_u F a (F a + 1)) (zl_u B (12 * a + F a) b) (zl_u G (12 * a + F a) g) n ↔ zl_mk F B G n := by
  constructor
  · rintro ⟨p, hv, hB, hG⟩
    rcases (zl_va1 ha hf).mp hv with h | rfl
    · rw [zl_un (zl_vne ha hf h)] at hB hG
      exact ⟨p, h, hB, hG⟩
    · rw [zl_us] at hB
      exact absurd hB hb
  · rintro ⟨p, hv, hB, hG⟩
    refine ⟨p, (zl_va1 ha hf).mpr (Or.inl hv), ?_, ?_⟩
    · rw [zl_un (zl_vne ha hf hv)]; exact hB
    · rw [zl_un (zl_vne ha hf hv)]; exact hG
theorem zl_mkM (ha : a < 6) (hf : F a < 12) : zl_mk (zl_u F a (F a + 1)) (zl_u B (12 * a + F a) 16) (zl_u G (12 * a + F a) g) n ↔ zl_mk F B G n ∨ n = g := by
  constructor
  · rintro ⟨p, hv, hB, hG⟩
    rcases (zl_va1 ha hf).mp hv with h | rfl
    · rw [zl_un (zl_vne ha hf h)] at hB hG
      exact Or.inl ⟨p, h, hB, hG⟩
    · rw [zl_us] at hG
      exact Or.inr hG.symm
  · rintro (⟨p, hv, hB, hG⟩ | rfl)
    · refine ⟨p, (zl_va1 ha hf).mpr (Or.inl hv), ?_, ?_⟩
      · rw [zl_un (zl_vne ha hf hv)]; exact hB
      · rw [zl_un (zl_vne ha hf hv)]; exact hG
    · exact ⟨12 * a + F a, (zl_va1 ha hf).mpr (Or.inr rfl), zl_us, zl_us⟩
theorem zl_appT (ha : a < 6) (hf : F a < 12) (hb : b < 16) (hg : ¬ zl_mk F B G g) (ht : zl_tab F B G T 72) :
    zl_tab (zl_u F a (F a + 1)) (zl_u B (12 * a + F a) b) (zl_u G (12 * a + F a) g) T 72 := by
  have hb2 : b ≠ 16 := by omega
  intro c hc
  refine ⟨fun h q hq hv hB hm => ?_, fun p h => ?_⟩
  · rw [zl_mkA ha hf hb2] at hm
    rcases (zl_va1 ha hf).mp hv with k | rfl
    · rw [zl_un (zl_vne ha hf k)] at hB hm
      exact (ht c hc).1 h q hq k hB hm
    · rw [zl_us] at hm
      exact hg hm
  · obtain ⟨v, e, m, mx⟩ := (ht c hc).2 p h
    have ne := zl_vne ha hf v
    refine ⟨(zl_va1 ha hf).mpr (Or.inl v), ?_, ?_, fun q hq hv hB hm => ?_⟩
    · rw [zl_un ne]; exact e
    · rw [zl_mkA ha hf hb2, zl_un ne]; exact m
    · rw [zl_mkA ha hf hb2] at hm
      rw [zl_un ne]
      rcases (zl_va1 ha hf).mp hv with k | rfl
      · rw [zl_un (zl_vne ha hf k)] at hB hm ⊢
        exact mx q hq k hB hm
      · rw [zl_us] at hm
        exact absurd hm hg
theorem zl_pdg (hp : zl_pd F B G a g i P) (hi : i ≤ 16) : ¬ zl_mk F B G g := by
  rintro ⟨p, hv, hB, hG⟩
  have := (hp p hv hG).2.1
  omega
theorem zl_pdA (ha : a < 6) (hf : F a < 12) (hp : zl_pd F B G a g i P) (hP : P i) :
    zl_pd (zl_u F a (F a + 1)) (zl_u B (12 * a + F a) i) (zl_u G (12 * a + F a) g) a g (i + 1) P := by
  intro p hv e
  rcases (zl_va1 ha hf).mp hv with k | rfl
  · rw [zl_un (zl_vne ha hf k)] at e ⊢
    have h := hp p k e
    exact ⟨h.1, by omega, h.2.2⟩
  · rw [zl_us]
    exact ⟨(zl_at ha hf).2.1, by omega, hP⟩
theorem zl_pdS (hp : zl_pd F B G a g i P) : zl_pd F B G a g (i + 1) P := fun p hv e => by
  have h := hp p hv e
  exact ⟨h.1, by omega, h.2.2⟩
theorem zl_pd0 (hd : zl_dev F O B G g o) : zl_pd F B G a (g + 1) 0 P := fun p hv e => by
  have := (hd.2.2.1 p hv).1
  omega
theorem zl_devg (hd : zl_dev F O B G g o) : zl_dev F O B G (g + 1) o :=
  ⟨hd.1, hd.2.1, fun p hp => ⟨by have := (hd.2.2.1 p hp).1; omega, (hd.2.2.1 p hp).2⟩, hd.2.2.2.1, hd.2.2.2.2⟩
theorem zl_nt0 : zl_nt F B V G g 0 P w T T := fun _ _ => ⟨fun h => absurd h (Nat.not_lt_zero _), fun _ => rfl⟩
theorem zl_ntS (h : zl_nt F B V G g i P w T N) (hP : ¬ P i) : zl_nt F B V G g (i + 1) P w T N := by
  intro b hb
  refine ⟨fun h1 h2 => (h b hb).1 ?_ h2, fun h1 => (h b hb).2 fun h2 => h1 ⟨by omega, h2.2⟩⟩
  have : b ≠ i := fun e => hP (e ▸ h2)
  omega
theorem zl_ntA (ha : a < 6) (hf : F a < 12) (h : zl_nt F B V G g i P w T N) (hP : P i) (hx : x = w i) :
    zl_nt (zl_u F a (F a + 1)) (zl_u B (12 * a + F a) i) (zl_u V (12 * a + F a) x) (zl_u G (12 * a + F a) g) g (i + 1) P w T (zl_u N i (some (12 * a + F a))) := by
  intro b hb
  by_cases e : b = i
  · subst e
    exact ⟨fun _ _ => ⟨12 * a + F a, zl_us, (zl_va1 ha hf).mpr (Or.inr rfl), zl_us, zl_us, by rw [zl_us]; exact hx⟩, fun k => absurd ⟨by omega, hP⟩ k⟩
  · rw [zl_un e]
    refine ⟨fun h1 h2 => ?_, fun h1 => (h b hb).2 fun h2 => h1 ⟨by omega, h2.2⟩⟩
    obtain ⟨p, e1, e2, e3, e4, e5⟩ := (h b hb).1 (by omega) h2
    have ne := zl_vne ha hf e2
    exact ⟨p, e1, (zl_va1 ha hf).mpr (Or.inl e2), by rw [zl_un ne]; exact e3, by rw [zl_un ne]; exact e4, by rw [zl_un ne]; exact e5⟩
theorem zl_vlA (ha : a < 6) (hf : F a < 12) (h : ∀ p, T b = some p → zl_va F p) : zl_vl (zl_u V (12 * a + F a) x) (T b) = zl_vl V (T b) := by
  cases e : T b with
  | none => rfl
  | some p => exact zl_un (zl_vne ha hf (h p e))
theorem zl_vvA (ha : a < 6) (hf : F a < 12) (ht : zl_tab F B G T 72) (h : zl_vv V T kp) : zl_vv (zl_u V (12 * a + F a) x) T kp := by
  intro b hb
  rw [zl_vlA ha hf (fun p e => ((ht b hb).2 p e).1)]
  exact h b hb
theorem zl_mark (hd : zl_dev F O B G g o) (ha : a < 6) (hO : O a ≠ none) (hf : F a < 12) (ht : zl_tab F B G T 72)
    (hp : zl_pd F B G a g 16 P) (hn : zl_nt F B V G g 16 P w T N) :
    zl_dev (zl_u F a (F a + 1)) O (zl_u B (12 * a + F a) 16) (zl_u G (12 * a + F a) g) g o ∧
    zl_tab (zl_u F a (F a + 1)) (zl_u B (12 * a + F a) 16) (zl_u G (12 * a + F a) g) N 72 := by
  have hD : zl_dev (zl_u F a (F a + 1)) O (zl_u B (12 * a + F a) 16) (zl_u G (12 * a + F a) g) g o :=
    zl_app hd ha hO hf (Nat.le_refl _) (fun p hv e => ⟨(hp p hv e).1, by have := (hp p hv e).2.1; omega⟩)
  refine ⟨hD, fun b hb => ?_⟩
  by_cases hP : P b
  · obtain ⟨p, e1, e2, e3, e4, e5⟩ := (hn b hb).1 hb hP
    have ne := zl_vne ha hf e2
    refine ⟨fun k => (nomatch e1.symm.trans k), fun q k => ?_⟩
    obtain rfl : p = q := Option.some.inj (e1.symm.trans k)
    refine ⟨(zl_va1 ha hf).mpr (Or.inl e2), by rw [zl_un ne]; exact e3, (zl_mkM ha hf).mpr (Or.inr (by rw [zl_un ne]; exact e4)), fun q hq hv hB hm => ?_⟩
    have := (hD.2.2.1 q hv).1
    rw [zl_un ne, e4]
    exact this
  · rw [(hn b hb).2 (fun k => hP k.2)]
    have key : ∀ q, zl_va (zl_u F a (F a + 1)) q → zl_u B (12 * a + F a) 16 q = b → zl_mk (zl_u F a (F a + 1)) (zl_u B (12 * a + F a) 16) (zl_u G (12 * a + F a) g) (zl_u G (12 * a + F a) g q) →
        q ≠ 12 * a + F a ∧ zl_va F q ∧ B q = b ∧ zl_mk F B G (G q) := by
      intro q hv hB hm
      rcases (zl_va1 ha hf).mp hv with k | rfl
      · have nq := zl_vne ha hf k
        rw [zl_un nq] at hB
        rw [zl_mkM ha hf, zl_un nq] at hm
        rcases hm with m | m
        · exact ⟨nq, k, hB, m⟩
        · exact absurd (hB ▸ (hp q k m).2.2) hP
      · rw [zl_us] at hB
        omega
    refine ⟨fun h q hq hv hB hm => ?_, fun p h => ?_⟩
    · obtain ⟨_, k1, k2, k3⟩ := key q hv hB hm
      exact (ht b hb).1 h q hq k1 k2 k3
    · obtain ⟨v, e, m, mx⟩ := (ht b hb).2 p h
      have ne := zl_vne ha hf v
      refine ⟨(zl_va1 ha hf).mpr (Or.inl v), by rw [zl_un ne]; exact e, (zl_mkM ha hf).mpr (Or.inl (by rw [zl_un ne]; exact m)), fun q hq hv hB hm => ?_⟩
      obtain ⟨nq, k1, k2, k3⟩ := key q hv hB hm
      rw [zl_un nq, zl_un ne]
      exact mx q hq k1 k2 k3
theorem zl_markV (ha : a < 6) (hf : F a < 12) (ht : zl_tab F B G T 72) (hv : zl_vv V T kp) (hn : zl_nt F B V G g 16 P w T N) (hb : b < 16) :
    (P b → zl_vl (zl_u V (12 * a + F a) x) (N b) = w b) ∧ (¬ P b → zl_vl (zl_u V (12 * a + F a) x) (N b) = kp b) := by
  refine ⟨fun hP => ?_, fun hP => ?_⟩
  · obtain ⟨p, e1, e2, e3, e4, e5⟩ := (hn b hb).1 hb hP
    rw [e1]
    show zl_u V (12 * a + F a) x p = w b
    rw [zl_un (zl_vne ha hf e2)]
    exact e5
  · rw [(hn b hb).2 (fun k => hP k.2), zl_vlA ha hf (fun p e => ((ht b hb).2 p e).1)]
    exact (hv b hb).symm
theorem zl_vaE {z : Nat} : zl_va (zl_u F z 0) p ↔ zl_va F p ∧ p / 12 ≠ z := by
  unfold zl_va
  by_cases h : p / 12 = z
  · rw [h, zl_us]
    exact ⟨fun k => absurd k.2 (Nat.not_lt_zero _), fun k => absurd rfl k.2⟩
  · rw [zl_un h]
    exact ⟨fun k => ⟨k, h⟩, fun k => k.1⟩
theorem zl_devE {z : Nat} (hd : zl_dev F O B G g o) : zl_dev (zl_u F z 0) (zl_u O z none) B G g o := by
  obtain ⟨d1, d2, d3, d4, d5⟩ := hd
  refine ⟨fun y hy => ?_, fun y hy e => ?_, fun p hp => d3 p (zl_vaE.mp hp).1, fun p q hp hq e => d4 p q (zl_vaE.mp hp).1 (zl_vaE.mp hq).1 e, fun y n hy e => ?_⟩
  · by_cases k : y = z
    · rw [k, zl_us]; omega
    · rw [zl_un k]; exact d1 y hy
  · by_cases k : y = z
    · rw [k, zl_us]
    · rw [zl_un k] at e ⊢; exact d2 y hy e
  · by_cases k : y = z
    · rw [k, zl_us] at e
      exact nomatch e
    · rw [zl_un k] at e; exact d5 y n hy e
theorem zl_mkE {z : Nat} (h : zl_mk (zl_u F z 0) B G n) : zl_mk F B G n := by
  obtain ⟨p, hv, hB, hG⟩ := h
  exact ⟨p, (zl_vaE.mp hv).1, hB, hG⟩
theorem zl_tabE {z : Nat} (hd : zl_dev F O B G g o) (ht : zl_tab F B G T 72) (hz : ∀ b p, b < 16 → T b = some p → p / 12 ≠ z) : zl_tab (zl_u F z 0) B G T 72 := by
  intro b hb
  refine ⟨fun h q hq hv hB hm => (ht b hb).1 h q hq (zl_vaE.mp hv).1 hB (zl_mkE hm), fun p h => ?_⟩
  obtain ⟨v, e, ⟨m, mv, mB, mG⟩, mx⟩ := (ht b hb).2 p h
  refine ⟨zl_vaE.mpr ⟨v, hz b p hb h⟩, e, ⟨m, zl_vaE.mpr ⟨mv, ?_⟩, mB, mG⟩, fun q hq hv hB hm => mx q hq (zl_vaE.mp hv).1 hB (zl_mkE hm)⟩
  rw [(hd.2.2.2.1 m p mv v mG).1]
  exact hz b p hb h
theorem zl_devO {z : Nat} (hd : zl_dev F O B G g o) (hz : z < 6) (hO : O z = none) : zl_u F z 0 = F ∧ zl_dev F (zl_u O z (some (o + 1))) B G g (o + 1) := by
  obtain ⟨d1, d2, d3, d4, d5⟩ := hd
  refine ⟨zl_uid (d2 z hz hO), d1, fun y hy e => ?_, d3, d4, fun y n hy e => ?_⟩
  · by_cases k : y = z
    · rw [k, zl_us] at e
      exact nomatch e
    · rw [zl_un k] at e; exact d2 y hy e
  · by_cases k : y = z
    · rw [k, zl_us] at e
      have := Option.some.inj e
      omega
    · rw [zl_un k] at e
      have := d5 y n hy e
      omega
theorem zl_empE {z : Nat} (hz : z < 6) : zl_emp (zl_u O z none) := ⟨z, hz, zl_us⟩
theorem zl_actE {z : Nat} {A : Option Nat} (h : zl_act O A) (hz : A ≠ some z) : zl_act (zl_u O z none) A := by
  intro a e
  have k : a ≠ z := fun k => hz (k ▸ e)
  rw [zl_un k]
  exact h a e
end
end
section
def zl_oI (t : Option Nat) : Int32 := match t with
  | none => -1
  | some n => nI n
def zl_nA (F : Nat → Nat) : Nat → Int32 := fun j => nI (F j)
def zl_oA (T : Nat → Option Nat) : Nat → Int32 := fun j => zl_oI (T j)
theorem zl_ne {n : Nat} (h : n < 2 ^ 31) : ¬ nI n = -1 := by
  intro e
  have h1 := nI_toInt h
  rw [e] at h1
  have h2 : (-1 : Int32).toInt = -1 := by decide
  omega
theorem zl_oIs {t : Option Nat} {n : Nat} (h : t = some n) : zl_oI t = nI n := by rw [h]; rfl
theorem zl_oIn {t : Option Nat} (h : t = none) : zl_oI t = -1 := by rw [h]; rfl
theorem zl_bo {A B : Prop} {x : Int32} (t : Option Nat) (hx : x = zl_oI t) (h : ∀ n, t = some n → n < 2 ^ 31) (f : t = none → A) (g : ∀ n, t = some n → B) : (x = -1 → A) ∧ (¬ x = -1 → B) := by
  cases e : t with
  | none =>
    rw [e] at hx
    exact br_t hx (f e)
  | some n =>
    rw [e] at hx
    refine br_f ?_ (g n e)
    rw [hx]
    exact zl_ne (h n e)
theorem zl_ba {P Q : Prop} {x y : Int32} (i : Nat) (A : Option Nat) (hx : x = nI i) (hy : y = zl_oI A) (hi : i < 2 ^ 31) (hA : ∀ a, A = some a → a < 2 ^ 31) (f : A = some i → P) (g : A ≠ some i → Q) : (x = y → P) ∧ (¬ x = y → Q) := by
  subst hx hy
  cases e : A with
  | none => exact br_f (zl_ne hi) (g (by rw [e]; intro k; exact nomatch k))
  | some a =>
    show (nI i = nI a → P) ∧ (¬ nI i = nI a → Q)
    rw [nI_eq hi (hA a e)]
    exact ⟨fun k => f (by rw [e, k]), fun k => g (by rw [e]; intro c; exact k (Option.some.inj c).symm)⟩
theorem zl_b0 {A B : Prop} {x : Int32} (v : Int32) (hx : x = v) (f : v = 0 → A) (g : ¬ v = 0 → B) : (x = 0 → A) ∧ (¬ x = 0 → B) := by
  subst hx
  exact ⟨f, g⟩
theorem zl_oa {T : Nat → Option Nat} {b : Nat} (hb : b < 2 ^ 31) : zl_oA T (nI b).toNatClampNeg = zl_oI (T b) := congrArg (zl_oA T) (nI_clamp hb)
theorem zl_na {F : Nat → Nat} {b : Nat} (hb : b < 2 ^ 31) : zl_nA F (nI b).toNatClampNeg = nI (F b) := congrArg (zl_nA F) (nI_clamp hb)
theorem zl_ua {f : Nat → Int32} {k : Nat} {x : Int32} (hk : k < 2 ^ 31) : upd f (nI k).toNatClampNeg x = zl_u f k x := by
  rw [nI_clamp hk]; rfl
theorem zl_un2 {F : Nat → Nat} {k x : Nat} (hk : k < 2 ^ 31) : upd (zl_nA F) (nI k).toNatClampNeg (nI x) = zl_nA (zl_u F k x) := by
  rw [nI_clamp hk]
  funext j
  by_cases e : j = k
  · rw [e]
    show (if k = k then nI x else _) = nI (zl_u F k x k)
    rw [if_pos rfl, zl_us]
  · show (if j = k then nI x else nI (F j)) = nI (zl_u F k x j)
    rw [if_neg e, zl_un e]
theorem zl_uo {T : Nat → Option Nat} {k : Nat} (t : Option Nat) {x : Int32} (hx : x = zl_oI t) (hk : k < 2 ^ 31) : upd (zl_oA T) (nI k).toNatClampNeg x = zl_oA (zl_u T k t) := by
  rw [nI_clamp hk, hx]
  funext j
  by_cases e : j = k
  · rw [e]
    show (if k = k then zl_oI t else _) = zl_oI (zl_u T k t k)
    rw [if_pos rfl, zl_us]
  · show (if j = k then zl_oI t else zl_oI (T j)) = zl_oI (zl_u T k t j)
    rw [if_neg e, zl_un e]
theorem zl_c0 {f : Nat → Nat} {i : Nat} (h : f i = 0) : nI (zl_cn f i) + 0 = nI (zl_cn f (i + 1)) := by
  show nI (zl_cn f i) + nI 0 = nI (zl_cn f i + f i)
  rw [nI_add, h]
theorem zl_c1 {f : Nat → Nat} {i : Nat} (h : f i = 1) : nI (zl_cn f i) + 1 = nI (zl_cn f (i + 1)) := by
  show nI (zl_cn f i) + 1 = nI (zl_cn f i + f i)
  rw [nI_1, h]
theorem zl_cs {f : Nat → Nat} {i : Nat} (h : f i = 0) : nI (zl_cn f i) = nI (zl_cn f (i + 1)) := by
  show nI (zl_cn f i) = nI (zl_cn f i + f i)
  rw [h]
  rfl
theorem zl_12 {p : Nat} (hp : p < 2 ^ 31) : nI p / 12 = nI (p / 12) := pk_div hp (by decide) (by decide)
theorem zl_r12 {p : Nat} (hp : p < 2 ^ 31) : nI p - nI p / 12 * 12 = nI (p % 12) := pk_rem hp (by decide) (by decide)
theorem zl_n12 : ¬ (12 : Int32) = 0 := by decide
section
variable {xr xg xa xn xo : Int32} {rb rv rg fl op tb ca di : Nat → Int32} {F B G : Nat → Nat} {V : Nat → Int32} {O T : Nat → Option Nat}
theorem zl_dc4 : ∀ d i : Nat, i + d = 16 → ∀ post : Int32 → Prop, post (nI (zl_cn (zl_df di) 16)) → wX_dirtyCount_4 post xr xg xa xn xo rb rv rg fl op tb ca di (d + 1) (nI (zl_cn (zl_df di) i)) (nI i) := by
  intro d
  induction d with
  | zero =>
    intro i hi post hp
    obtain rfl : i = 16 := by omega
    exact br_t (nI_le (a := 16) (b := 16) (by decide) (by decide)) hp
  | succ d ih =>
    intro i hi post hp
    exact br_f (nI_ge (a := i) (b := 16) (by omega) (by decide)) ⟨vp_in_nI (by omega) (by decide), zl_b0 (di i) (congrArg di (nI_clamp (by omega)))
      (fun h => nm_r (zl_c0 (zl_dfz h)) (nm_r (nI_1 i) (ih (i + 1) (by omega) post hp)))
      (fun h => nm_r (zl_c1 (zl_dfn h)) (nm_r (nI_1 i) (ih (i + 1) (by omega) post hp)))⟩
theorem zl_dc {post : Int32 → Prop} (hp : post (nI (zl_cn (zl_df di) 16))) : wpX_dirtyCount post (xr, xg, xa, xn, xo, rb, rv, rg, fl, op, tb, ca, di) := ⟨17, zl_dc4 16 0 rfl post hp⟩
theorem zl_lv4 {z : Nat} (hz : z < 2 ^ 31) (hT : ∀ b p, b < 16 → T b = some p → p < 72) : ∀ d i : Nat, i + d = 16 → ∀ post : Int32 → Prop, post (nI (zl_cn (zl_lf T z) 16)) →
    wX_living_4 post (nI z) xr xg xa xn xo rb rv rg fl op (zl_oA T) ca di (d + 1) (nI (zl_cn (zl_lf T z) i)) (nI i) := by
  intro d
  induction d with
  | zero =>
    intro i hi post hp
    obtain rfl : i = 16 := by omega
    exact br_t (nI_le (a := 16) (b := 16) (by decide) (by decide)) hp
  | succ d ih =>
    intro i hi post hp
    refine br_f (nI_ge (a := i) (b := 16) (by omega) (by decide)) ⟨vp_in_nI (by omega) (by decide), zl_bo (T i) (zl_oa (by omega)) (fun p e => by have := hT i p (by omega) e; omega)
      (fun h => nm_r (zl_c0 (zl_lf0 h)) (nm_r (nI_1 i) (ih (i + 1) (by omega) post hp)))
      (fun p h => ⟨vp_in_nI (by omega) (by decide), zl_n12, pk_eq (p / 12) z
        (fun e => nm_r (zl_c1 (zl_lfy h e)) (nm_r (nI_1 i) (ih (i + 1) (by omega) post hp)))
        (fun e => nm_r (zl_c0 (zl_lfn h e)) (nm_r (nI_1 i) (ih (i + 1) (by omega) post hp))) ?_ rfl ?_ hz⟩)⟩
    · rw [zl_oa (by omega), zl_oIs h]
      exact zl_12 (by have := hT i p (by omega) h; omega)
    · have := hT i p (by omega) h
      omega
theorem zl_lv {post : Int32 → Prop} {z : Nat} (hz : z < 2 ^ 31) (hT : ∀ b p, b < 16 → T b = some p → p < 72) (hp : post (nI (zl_cn (zl_lf T z) 16))) :
    wpX_living post (xr, xg, xa, xn, xo, rb, rv, rg, fl, op, zl_oA T, ca, di) (nI z) := ⟨17, zl_lv4 hz hT 16 0 rfl post hp⟩
theorem zl_ez4 (hO : ∀ z n, z < 6 → O z = some n → n < 2 ^ 31) : ∀ d i : Nat, i + d = 6 → ∀ post : Int32 → Prop, post (nI (zl_cn (zl_ef O) 6)) → wX_emptyZones_4 post xr xg xa xn xo rb rv rg fl (zl_oA O) tb ca di (d + 1) (nI (zl_cn (zl_ef O) i)) (nI i) := by
  intro d
  induction d with
  | zero =>
    intro i hi post hp
    obtain rfl : i = 6 := by omega
    exact br_t (nI_le (a := 6) (b := 6) (by decide) (by decide)) hp
  | succ d ih =>
    intro i hi post hp
    exact br_f (nI_ge (a := i) (b := 6) (by omega) (by decide)) ⟨vp_in_nI (by omega) (by decide), zl_bo (O i) (zl_oa (by omega)) (fun p e => hO i p (by omega) e)
      (fun h => nm_r (zl_c1 (zl_efn h)) (nm_r (nI_1 i) (ih (i + 1) (by omega) post hp)))
      (fun p h => nm_r (zl_c0 (zl_efs h)) (nm_r (nI_1 i) (ih (i + 1) (by omega) post hp)))⟩
theorem zl_ez {post : Int32 → Prop} (hO : ∀ z n, z < 6 → O z = some n → n < 2 ^ 31) (hp : post (nI (zl_cn (zl_ef O) 6))) : wpX_emptyZones post (xr, xg, xa, xn, xo, rb, rv, rg, fl, zl_oA O, tb, ca, di) := ⟨7, zl_ez4 hO 6 0 rfl post hp⟩
theorem zl_oz2 {o : Nat} (hO : ∀ z n, z < 6 → O z = some n → n < 2 ^ 31) : ∀ d i : Nat, i + d = 6 → (∃ z, i ≤ z ∧ z < 6 ∧ O z = none) → ∃ z, z < 6 ∧ O z = none ∧
    ∀ post : SX → Prop, post (xr, xg, nI z, xn, nI (o + 1), rb, rv, rg, zl_nA (zl_u F z 0), zl_oA (zl_u O z (some (o + 1))), tb, ca, di) →
      wX_openZone_2 post xr xg xa xn (nI o) rb rv rg (zl_nA F) (zl_oA O) tb ca di (d + 1) (nI i) := by
  intro d
  induction d with
  | zero =>
    intro i hi h
    obtain ⟨z, h1, h2, _⟩ := h
    omega
  | succ d ih =>
    intro i hi h
    have hge : ¬ (6 : Int32) ≤ nI i := nI_ge (a := i) (b := 6) (by omega) (by decide)
    have hin : vp_in (nI i) 6 := vp_in_nI (by omega) (by decide)
    cases e : O i with
    | none =>
      refine ⟨i, by omega, e, fun post hp => br_f hge ⟨hin, br_t ?_ (nm_r (nI_1 o) ⟨hin, nm_r (zl_uo (some (o + 1)) rfl (by omega)) ⟨hin, nm_r (zl_un2 (x := 0) (by omega)) hp⟩⟩)⟩⟩
      rw [zl_oa (by omega), e]
      rfl
    | some n =>
      obtain ⟨z, h1, h2, h3⟩ := ih (i + 1) (by omega) (by
        obtain ⟨z, h1, h2, h3⟩ := h
        have : z ≠ i := fun k => by rw [k, e] at h3; exact nomatch h3
        exact ⟨z, by omega, h2, h3⟩)
      refine ⟨z, h1, h2, fun post hp => br_f hge ⟨hin, br_f ?_ (nm_r (nI_1 i) (h3 post hp))⟩⟩
      rw [zl_oa (by omega), e]
      exact zl_ne (hO i n (by omega) e)
theorem zl_oz {o : Nat} (hO : ∀ z n, z < 6 → O z = some n → n < 2 ^ 31) (h : zl_emp O) : ∃ z, z < 6 ∧ O z = none ∧
    ∀ post : SX → Prop, post (xr, xg, nI z, xn, nI (o + 1), rb, rv, rg, zl_nA (zl_u F z 0), zl_oA (zl_u O z (some (o + 1))), tb, ca, di) →
      wpX_openZone post (xr, xg, xa, xn, nI o, rb, rv, rg, zl_nA F, zl_oA O, tb, ca, di) := by
  obtain ⟨z, h1, h2⟩ := h
  obtain ⟨z, h1, h2, h3⟩ := zl_oz2 (xr := xr) (xg := xg) (xa := xa) (xn := xn) (rb := rb) (rv := rv) (rg := rg) (tb := tb) (ca := ca) (di := di) (F := F) (o := o) hO 6 0 rfl ⟨z, Nat.zero_le _, h1, h2⟩
  exact ⟨z, h1, h2, fun post hp => ⟨7, h3 post hp⟩⟩
def zl_best (O T : Nat → Option Nat) (A : Option Nat) (i : Nat) (t : Option Nat) : Prop :=
  (t = none → ∀ y, y < i → A ≠ some y → O y = none) ∧
  (∀ z, t = some z → z < 6 ∧ A ≠ some z ∧ O z ≠ none ∧ ∀ y, y < i → A ≠ some y → O y ≠ none → zl_cn (zl_lf T z) 16 ≤ zl_cn (zl_lf T y) 16)
theorem zl_bestK {A : Option Nat} {i : Nat} {t : Option Nat} (h : zl_best O T A i t) (k : A ≠ some i → O i = none) : zl_best O T A (i + 1) t := by
  refine ⟨fun e y hy hA => ?_, fun z e => ⟨(h.2 z e).1, (h.2 z e).2.1, (h.2 z e).2.2.1, fun y hy hA hO => ?_⟩⟩
  · by_cases c : y = i
    · rw [c] at hA ⊢; exact k hA
    · exact h.1 e y (by omega) hA
  · by_cases c : y = i
    · rw [c] at hA hO; exact absurd (k hA) hO
    · exact (h.2 z e).2.2.2 y (by omega) hA hO
theorem zl_po4 {A : Option Nat} (hO : ∀ z n, z < 6 → O z = some n → n < 2 ^ 31) (hT : ∀ b p, b < 16 → T b = some p → p < 72) (hA : ∀ a, A = some a → a < 2 ^ 31) :
    ∀ d i : Nat, i + d = 6 → ∀ t, zl_best O T A i t → ∃ t', zl_best O T A 6 t' ∧ ∀ post : Int32 → Prop, post (zl_oI t') → wX_poorest_4 post xr xg (zl_oI A) xn xo rb rv rg fl (zl_oA O) (zl_oA T) ca di (d + 1) (zl_oI t) (nI i) := by
  intro d
  induction d with
  | zero =>
    intro i hi t ht
    obtain rfl : i = 6 := by omega
    exact ⟨t, ht, fun post hp => br_t (nI_le (a := 6) (b := 6) (by decide) (by decide)) hp⟩
  | succ d ih =>
    intro i hi t ht
    have hge : ¬ (6 : Int32) ≤ nI i := nI_ge (a := i) (b := 6) (by omega) (by decide)
    have hin : vp_in (nI i) 6 := vp_in_nI (by omega) (by decide)
    have hi2 : i < 2 ^ 31 := by omega
    by_cases c : A = some i
    · obtain ⟨t', h1, h2⟩ := ih (i + 1) (by omega) t (zl_bestK ht (fun k => absurd c k))
      exact ⟨t', h1, fun post hp => br_f hge (zl_ba i A rfl rfl hi2 hA (fun _ => nm_r (nI_1 i) (h2 post hp)) (fun k => absurd c k))⟩
    · cases e : O i with
      | none =>
        obtain ⟨t', h1, h2⟩ := ih (i + 1) (by omega) t (zl_bestK ht (fun _ => e))
        exact ⟨t', h1, fun post hp => br_f hge (zl_ba i A rfl rfl hi2 hA (fun k => absurd k c) (fun _ => ⟨hin, zl_bo (O i) (zl_oa hi2) (fun n => hO i n (by omega))
          (fun _ => nm_r (nI_1 i) (h2 post hp)) (fun n k => nomatch e.symm.trans k)⟩))⟩
      | some n =>
        have hOi : O i ≠ none := fun k => nomatch e.symm.trans k
        cases et : t with
        | none =>
          have hb : zl_best O T A (i + 1) (some i) := by
            refine ⟨(fun k => nomatch k), fun z k => ?_⟩
            obtain rfl := Option.some.inj k
            refine ⟨by omega, c, hOi, fun y hy hA2 hO2 => ?_⟩
            by_cases q : y = i
            · rw [q]; exact Nat.le_refl _
            · exact absurd (ht.1 et y (by omega) hA2) hO2
          obtain ⟨t', h1, h2⟩ := ih (i + 1) (by omega) (some i) hb
          exact ⟨t', h1, fun post hp => br_f hge (zl_ba i A rfl rfl hi2 hA (fun k => absurd k c) (fun _ => ⟨hin, zl_bo (O i) (zl_oa hi2) (fun n => hO i n (by omega))
            (fun k => nomatch e.symm.trans k) (fun _ _ => br_t rfl (nm_r (nI_1 i) (h2 post hp)))⟩))⟩
        | some z =>
          have hz := ht.2 z et
          have hzb : z < 2 ^ 31 := by have := hz.1; omega
          have hl1 := zl_lv16 T z
          have hl2 := zl_lv16 T i
          by_cases q : zl_cn (zl_lf T z) 16 ≤ zl_cn (zl_lf T i) 16
          · have hb : zl_best O T A (i + 1) (some z) := by
              refine ⟨(fun k => nomatch k), fun z' k => ?_⟩
              obtain rfl := Option.some.inj k
              refine ⟨hz.1, hz.2.1, hz.2.2.1, fun y hy hA2 hO2 => ?_⟩
              by_cases q2 : y = i
              · rw [q2]; exact q
              · exact hz.2.2.2 y (by omega) hA2 hO2
            obtain ⟨t', h1, h2⟩ := ih (i + 1) (by omega) (some z) hb
            exact ⟨t', h1, fun post hp => br_f hge (zl_ba i A rfl rfl hi2 hA (fun k => absurd k c) (fun _ => ⟨hin, zl_bo (O i) (zl_oa hi2) (fun n => hO i n (by omega))
              (fun k => nomatch e.symm.trans k) (fun _ _ => br_f (zl_ne hzb) (zl_lv hi2 hT (zl_lv hzb hT (br_t (nI_le q (by omega)) (nm_r (nI_1 i) (h2 post hp))))))⟩))⟩
          · have hb : zl_best O T A (i + 1) (some i) := by
              refine ⟨(fun k => nomatch k), fun z' k => ?_⟩
              obtain rfl := Option.some.inj k
              refine ⟨by omega, c, hOi, fun y hy hA2 hO2 => ?_⟩
              by_cases q2 : y = i
              · rw [q2]; exact Nat.le_refl _
              · have := hz.2.2.2 y (by omega) hA2 hO2
                omega
            obtain ⟨t', h1, h2⟩ := ih (i + 1) (by omega) (some i) hb
            exact ⟨t', h1, fun post hp => br_f hge (zl_ba i A rfl rfl hi2 hA (fun k => absurd k c) (fun _ => ⟨hin, zl_bo (O i) (zl_oa hi2) (fun n => hO i n (by omega))
              (fun k => nomatch e.symm.trans k) (fun _ _ => br_f (zl_ne hzb) (zl_lv hi2 hT (zl_lv hzb hT (br_f (nI_ge (by omega) (by omega)) (nm_r (nI_1 i) (h2 post hp))))))⟩))⟩
theorem zl_po {A : Option Nat} (hO : ∀ z n, z < 6 → O z = some n → n < 2 ^ 31) (hT : ∀ b p, b < 16 → T b = some p → p < 72) (hA : ∀ a, A = some a → a < 2 ^ 31) :
    ∃ t, zl_best O T A 6 t ∧ ∀ post : Int32 → Prop, post (zl_oI t) → wpX_poorest post (xr, xg, zl_oI A, xn, xo, rb, rv, rg, fl, zl_oA O, zl_oA T, ca, di) := by
  obtain ⟨t, h1, h2⟩ := zl_po4 (xr := xr) (xg := xg) (xn := xn) (xo := xo) (rb := rb) (rv := rv) (rg := rg) (fl := fl) (ca := ca) (di := di) hO hT hA 6 0 rfl none
    ⟨fun _ y hy => absurd hy (Nat.not_lt_zero _), fun z k => nomatch k⟩
  exact ⟨t, h1, fun post hp => ⟨7, h2 post hp⟩⟩
theorem zl_ap {post : Int32 → SX → Prop} {a g b : Nat} {v w : Int32} (ha : a < 6) (hf : F a < 12) (hv : v = w)
    (hp : post (nI (12 * a + F a)) (xr, xg, nI a, nI g, xo, zl_nA (zl_u B (12 * a + F a) b), zl_u V (12 * a + F a) w, zl_nA (zl_u G (12 * a + F a) g), zl_nA (zl_u F a (F a + 1)), op, tb, ca, di)) :
    wpX_append post (xr, xg, nI a, nI g, xo, zl_nA B, V, zl_nA G, zl_nA F, op, tb, ca, di) (nI b) v := by
  subst hv
  have hat := zl_at ha hf
  have h6 : vp_in (nI a) 6 := vp_in_nI ha (by decide)
  have h72 : vp_in (nI (12 * a + F a)) 72 := vp_in_nI hat.1 (by decide)
  have e : 12 * nI a + zl_nA F (nI a).toNatClampNeg = nI (12 * a + F a) := by
    rw [zl_na (by omega), ← nI_add, ← pk_mul]
    rfl
  have e2 : upd (zl_nA F) (nI a).toNatClampNeg (zl_nA F (nI a).toNatClampNeg + 1) = zl_nA (zl_u F a (F a + 1)) := by
    rw [zl_na (by omega), nI_1]
    exact zl_un2 (by omega)
  exact ⟨h6, nm_r e ⟨h72, nm_r (zl_un2 (by omega)) ⟨h72, nm_r (zl_ua (by omega)) ⟨h72, nm_r (zl_un2 (by omega)) ⟨h6, h6, nm_r e2 hp⟩⟩⟩⟩⟩
theorem zl_em {post : SX → Prop} {z : Nat} (hz : z < 6) (hp : post (xr, xg, xa, xn, xo, rb, rv, rg, zl_nA (zl_u F z 0), zl_oA (zl_u O z none), tb, ca, di)) :
    wpX_empty post (xr, xg, xa, xn, xo, rb, rv, rg, zl_nA F, zl_oA O, tb, ca, di) (nI z) := by
  have h6 : vp_in (nI z) 6 := vp_in_nI hz (by decide)
  exact ⟨h6, nm_r (zl_un2 (x := 0) (by omega)) ⟨h6, nm_r (zl_uo none rfl (by omega)) hp⟩⟩
theorem zl_dr2 : ∀ d i : Nat, i + d = 16 → ∀ (di : Nat → Int32) (post : SX → Prop), post (xr, xg, xa, xn, xo, rb, rv, rg, fl, op, tb, ca, zl_fi 0 i 16 di) → wX_dropCache_2 post xr xg xa xn xo (d + 1) (nI i) rb rv rg fl op tb ca di := by
  intro d
  induction d with
  | zero =>
    intro i hi di post hp
    obtain rfl : i = 16 := by omega
    rw [zl_fi_e] at hp
    exact br_t (nI_le (a := 16) (b := 16) (by decide) (by decide)) hp
  | succ d ih =>
    intro i hi di post hp
    rw [← zl_fi_s (by omega)] at hp
    exact br_f (nI_ge (a := i) (b := 16) (by omega) (by decide)) ⟨vp_in_nI (by omega) (by decide), nm_r (zl_ua (by omega)) (nm_r (nI_1 i) (ih (i + 1) (by omega) _ post hp))⟩
theorem zl_dr {post : SX → Prop} (hp : post (xr, xg, xa, xn, xo, rb, rv, rg, fl, op, tb, ca, zl_fi 0 0 16 di)) : wpX_dropCache post (xr, xg, xa, xn, xo, rb, rv, rg, fl, op, tb, ca, di) := ⟨17, zl_dr2 16 0 rfl di post hp⟩
theorem zl_fa6 : ∀ d i : Nat, i + d = 16 → ∀ (T : Nat → Option Nat) (post : SX → Prop), post (0, 0, -1, xn, xo, rb, rv, rg, fl, op, zl_oA (zl_fi none i 16 T), ca, di) → wX_fall_6 post xr xg xa xn xo (d + 1) (nI i) rb rv rg fl op (zl_oA T) ca di := by
  intro d
  induction d with
  | zero =>
    intro i hi T post hp
    obtain rfl : i = 16 := by omega
    rw [zl_fi_e] at hp
    exact br_t (nI_le (a := 16) (b := 16) (by decide) (by decide)) hp
  | succ d ih =>
    intro i hi T post hp
    rw [← zl_fi_s (by omega)] at hp
    exact br_f (nI_ge (a := i) (b := 16) (by omega) (by decide)) ⟨vp_in_nI (by omega) (by decide), nm_r (zl_uo none rfl (by omega)) (nm_r (nI_1 i) (ih (i + 1) (by omega) _ post hp))⟩
theorem zl_fa {post : SX → Prop} (hp : post (0, 0, -1, xn, xo, rb, rv, rg, fl, op, zl_oA (zl_fi none 0 16 T), ca, zl_fi 0 0 16 di)) : wpX_fall post (xr, xg, xa, xn, xo, rb, rv, rg, fl, op, zl_oA T, ca, di) :=
  zl_dr ⟨17, zl_fa6 16 0 rfl T post hp⟩
end
end
section
theorem zl_ep {O : Nat → Option Nat} (h : zl_emp O) : 0 < zl_cn (zl_ef O) 6 := by
  obtain ⟨z, h1, h2⟩ := h
  have h3 := zl_efn h2
  by_cases k : zl_cn (zl_ef O) 6 = 0
  · have := zl_cn_0 k h1
    omega
  · omega
theorem zl_pe {O : Nat → Option Nat} (h : 0 < zl_cn (zl_ef O) 6) : zl_emp O := by
  obtain ⟨z, h1, h2⟩ := zl_cn_p h
  refine ⟨z, h1, ?_⟩
  cases e : O z with
  | none => rfl
  | some n =>
    rw [zl_efs e] at h2
    omega
theorem zl_inr {t : Option Nat} {p : Nat} (h : t = some p) : t ≠ none := fun k => nomatch h.symm.trans k
section
variable {xr xg xa xn xo x1 x2 : Int32} {rb rv rg fl op tb ca di kp : Nat → Int32} {F B G : Nat → Nat} {V : Nat → Int32} {O T N : Nat → Option Nat} {A : Option Nat} {a g o z f0 : Nat}
theorem zl_mo20 (hz : z < 6) (hza : a ≠ z) (ha : a < 6) (hO : O a ≠ none) (h3 : zl_cn (zl_lf T z) 16 ≤ 3) : ∀ d i : Nat, i + d = 16 → ∀ (B : Nat → Nat) (V : Nat → Int32) (G F : Nat → Nat) (N : Nat → Option Nat),
    zl_dev F O B G g o → zl_tab F B G T 72 → zl_vv V T kp → zl_pd F B G a g i (fun b => ∃ p, T b = some p ∧ p / 12 = z) → zl_nt F B V G g i (fun b => ∃ p, T b = some p ∧ p / 12 = z) kp T N → F a ≤ zl_cn (zl_lf T z) i →
    ∃ (B' : Nat → Nat) (V' : Nat → Int32) (G' F' : Nat → Nat) (N' : Nat → Option Nat), zl_dev F' (zl_u O z none) B' G' g o ∧ zl_tab F' B' G' N' 72 ∧ zl_vv V' N' kp ∧ F' a ≤ 4 ∧
      ∀ post : SX → Prop, post (xr, xg, nI a, nI g, xo, zl_nA B', V', zl_nA G', zl_nA F', zl_oA (zl_u O z none), zl_oA N', ca, di) → wX_moveOut_20 post (nI z) (d + 1) (nI i) xr xg (nI a) (nI g) xo (zl_nA B) V (zl_nA G) (zl_nA F) (zl_oA O) (zl_oA N) ca di := by
  intro d
  induction d with
  | zero =>
    intro i hi B V G F N hd ht hv hp hn hF
    obtain rfl : i = 16 := by omega
    have hf : F a < 12 := by omega
    obtain ⟨hD, hT⟩ := zl_mark hd ha hO hf ht hp hn
    refine ⟨_, zl_u V (12 * a + F a) 0, _, _, N, zl_devE (z := z) hD, zl_tabE (z := z) hD hT ?_, ?_, ?_, fun post hpost => br_t (nI_le (a := 16) (b := 16) (by decide) (by decide)) (zl_ap (b := 16) ha hf rfl (zl_em hz hpost))⟩
    · intro b p hb e
      by_cases hP : ∃ p, T b = some p ∧ p / 12 = z
      · obtain ⟨q, q1, q2, q3, q4, q5⟩ := (hn b hb).1 hb hP
        obtain rfl := Option.some.inj (e.symm.trans q1)
        rw [(hp p q2 q4).1]
        exact hza
      · rw [(hn b hb).2 (fun k => hP k.2)] at e
        exact fun k => hP ⟨p, e, k⟩
    · intro b hb
      have h := zl_markV (x := 0) ha hf ht hv hn hb
      by_cases hP : ∃ p, T b = some p ∧ p / 12 = z
      · exact (h.1 hP).symm
      · exact (h.2 hP).symm
    · rw [zl_un hza, zl_us]
      omega
  | succ d ih =>
    intro i hi B V G F N hd ht hv hp hn hF
    have hge : ¬ (16 : Int32) ≤ nI i := nI_ge (a := i) (b := 16) (by omega) (by decide)
    have hin : vp_in (nI i) 16 := vp_in_nI (by omega) (by decide)
    have hi2 : i < 2 ^ 31 := by omega
    have hN : N i = T i := (hn i (by omega)).2 (fun k => absurd k.1 (Nat.lt_irrefl _))
    have hm : zl_cn (zl_lf T z) i ≤ zl_cn (zl_lf T z) (i + 1) := zl_cn_m (by omega)
    have hm2 : zl_cn (zl_lf T z) (i + 1) ≤ zl_cn (zl_lf T z) 16 := zl_cn_m (by omega)
    have hf : F a < 12 := by omega
    cases e : T i with
    | none =>
      have hP : ¬ ∃ p, T i = some p ∧ p / 12 = z := fun ⟨p, h1, _⟩ => nomatch e.symm.trans h1
      obtain ⟨B', V', G', F', N', k1, k2, k3, k4, k5⟩ := ih (i + 1) (by omega) B V G F N hd ht hv (zl_pdS hp) (zl_ntS hn hP) (by omega)
      refine ⟨B', V', G', F', N', k1, k2, k3, k4, fun post hpost => br_f hge ⟨hin, br_t ?_ (nm_r (nI_1 i) (k5 post hpost))⟩⟩
      rw [zl_oa hi2, hN, e]
      rfl
    | some p =>
      have hpv := ((ht i (by omega)).2 p e).1
      have hp72 : p < 72 := hpv.1
      have htb : zl_oA N (nI i).toNatClampNeg = nI p := by rw [zl_oa hi2, hN, e]; rfl
      have hne : ¬ zl_oA N (nI i).toNatClampNeg = -1 := by rw [htb]; exact zl_ne (by omega)
      have hdv : zl_oA N (nI i).toNatClampNeg / 12 = nI (p / 12) := by rw [htb]; exact zl_12 (by omega)
      by_cases ez : p / 12 = z
      · have hP : ∃ p, T i = some p ∧ p / 12 = z := ⟨p, e, ez⟩
        have hl : zl_cn (zl_lf T z) (i + 1) = zl_cn (zl_lf T z) i + zl_lf T z i := rfl
        rw [zl_lfy e ez] at hl
        have hval : V p = kp i := by rw [hv i (by omega), e]; rfl
        obtain ⟨B', V', G', F', N', k1, k2, k3, k4, k5⟩ := ih (i + 1) (by omega) _ _ _ _ _ (zl_app hd ha hO hf (by omega) (fun q q1 q2 => ⟨(hp q q1 q2).1, by have := (hp q q1 q2).2.1; omega⟩))
          (zl_appT ha hf (by omega) (zl_pdg hp (by omega)) ht) (zl_vvA (x := V p) ha hf ht hv) (zl_pdA ha hf hp hP) (zl_ntA ha hf hn hP hval) (by rw [zl_us]; omega)
        refine ⟨B', V', G', F', N', k1, k2, k3, k4, fun post hpost => br_f hge ⟨hin, br_f hne ⟨hin, zl_n12, br_t (by rw [hdv, ez]) ⟨hin, by rw [htb]; exact vp_in_nI hp72 (by decide), zl_ap ha hf ?_
          (And.intro hin (nm_r (zl_uo (some (12 * a + F a)) rfl hi2) (nm_r (nI_1 i) (k5 post hpost))))⟩⟩⟩⟩
        rw [htb, nI_clamp (by omega)]
      · have hP : ¬ ∃ p, T i = some p ∧ p / 12 = z := fun ⟨q, h1, h2⟩ => ez (by rw [Option.some.inj (e.symm.trans h1)]; exact h2)
        obtain ⟨B', V', G', F', N', k1, k2, k3, k4, k5⟩ := ih (i + 1) (by omega) B V G F N hd ht hv (zl_pdS hp) (zl_ntS hn hP) (by omega)
        refine ⟨B', V', G', F', N', k1, k2, k3, k4, fun post hpost => br_f hge ⟨hin, br_f hne ⟨hin, zl_n12, br_f ?_ (nm_r (nI_1 i) (k5 post hpost))⟩⟩⟩
        rw [hdv, nI_eq (by omega) (by omega)]
        exact ez
theorem zl_t72 (ht : zl_tab F B G T 72) : ∀ b p, b < 16 → T b = some p → p < 72 := fun b p hb e => (((ht b hb).2 p e).1).1
theorem zl_o31 (hd : zl_dev F O B G g o) (ho : o < 2 ^ 31) : ∀ z n, z < 6 → O z = some n → n < 2 ^ 31 := fun z n hz e => Nat.lt_of_le_of_lt (hd.2.2.2.2 z n hz e) ho
theorem zl_mo (hz : z < 6) (hza : a ≠ z) (ha : a < 6) (hO : O a ≠ none) (h3 : zl_cn (zl_lf T z) 16 ≤ 3) (hd : zl_dev F O B G g o) (ht : zl_tab F B G T 72) (hv : zl_vv V T kp) (hF : F a = 0) :
    ∃ (g' : Nat) (B' : Nat → Nat) (V' : Nat → Int32) (G' F' : Nat → Nat) (T' : Nat → Option Nat), g' ≤ g + 1 ∧ zl_dev F' (zl_u O z none) B' G' g' o ∧ zl_tab F' B' G' T' 72 ∧ zl_vv V' T' kp ∧ F' a ≤ 4 ∧
      ∀ post : SX → Prop, post (xr, xg, nI a, nI g', xo, zl_nA B', V', zl_nA G', zl_nA F', zl_oA (zl_u O z none), zl_oA T', ca, di) → wpX_moveOut post (xr, xg, nI a, nI g, xo, zl_nA B, V, zl_nA G, zl_nA F, zl_oA O, zl_oA T, ca, di) (nI z) := by
  by_cases h0 : zl_cn (zl_lf T z) 16 = 0
  · refine ⟨g, B, V, G, _, T, by omega, zl_devE (z := z) hd, zl_tabE (z := z) hd ht ?_, hv, ?_, fun post hp => zl_lv (by omega) (zl_t72 ht) (br_t ?_ (zl_em hz hp))⟩
    · intro b p hb e k
      have h1 := zl_cn_0 h0 hb
      rw [zl_lfy e k] at h1
      omega
    · rw [zl_un hza]
      omega
    · rw [h0]
      decide
  · obtain ⟨B', V', G', F', N', k1, k2, k3, k4, k5⟩ := zl_mo20 (xr := xr) (xg := xg) (xo := xo) (ca := ca) (di := di) hz hza ha hO h3 16 0 rfl B V G F T (zl_devg hd) ht hv (zl_pd0 hd) zl_nt0 (by rw [hF]; exact Nat.zero_le _)
    exact ⟨g + 1, B', V', G', F', N', Nat.le_refl _, k1, k2, k3, k4, fun post hp => zl_lv (by omega) (zl_t72 ht) (br_f (nI_nle (by omega) (by omega)) (nm_r (nI_1 g) ⟨17, k5 post hp⟩))⟩
theorem zl_mr34 (ha : a < 6) (hO : O a ≠ none) (hd : zl_dev F O B G g o) (ht : zl_tab F B G T 72) (hv : zl_vv V T kp) (hF : F a = 0) (ho : o < 2 ^ 31) :
    ∃ (g' : Nat) (B' : Nat → Nat) (V' : Nat → Int32) (G' F' : Nat → Nat) (O' T' : Nat → Option Nat), g' ≤ g + 1 ∧ zl_dev F' O' B' G' g' o ∧ zl_tab F' B' G' T' 72 ∧ zl_vv V' T' kp ∧ O' a ≠ none ∧ F' a ≤ 5 ∧ zl_emp O' ∧
      ∀ post : SX → Prop, post (xr, xg, nI a, nI g', xo, zl_nA B', V', zl_nA G', zl_nA F', zl_oA O', zl_oA T', ca, di) → wX_makeRoom_34 post 2 0 xr xg (nI a) (nI g) xo (zl_nA B) V (zl_nA G) (zl_nA F) (zl_oA O) (zl_oA T) ca di := by
  have h60 : ¬ (6 : Int32) ≤ 0 := by decide
  have h61 : ¬ (6 : Int32) ≤ 1 := by decide
  have hO31 := zl_o31 hd ho
  have hA : ∀ b, some a = some b → b < 2 ^ 31 := fun b e => by
    have := Option.some.inj e
    omega
  obtain ⟨t, hb, hw⟩ := zl_po (xr := xr) (xg := xg) (xn := nI g) (xo := xo) (rb := zl_nA B) (rv := V) (rg := zl_nA G) (fl := zl_nA F) (ca := ca) (di := di) hO31 (zl_t72 ht) hA
  have hc6 : zl_cn (zl_ef O) 6 ≤ 6 := zl_cn_b (zl_ef1 O) 6
  by_cases h0 : 0 < zl_cn (zl_ef O) 6
  · exact ⟨g, B, V, G, F, O, T, by omega, hd, ht, hv, hO, by omega, zl_pe h0, fun post hp => br_f h60 (hw _ (zl_ez hO31 (br_t (nI_lt (a := 0) h0 (by omega)) hp)))⟩
  · have hall : ∀ y, y < 6 → O y ≠ none := fun y hy k => h0 (zl_ep ⟨y, hy, k⟩)
    cases et : t with
    | none =>
      have : ∃ y, y < 6 ∧ y ≠ a := by
        by_cases k : a = 0
        · exact ⟨1, by omega, by omega⟩
        · exact ⟨0, by omega, by omega⟩
      obtain ⟨y, hy, hya⟩ := this
      exact absurd (hb.1 et y hy (fun k => hya (Option.some.inj k).symm)) (hall y hy)
    | some z =>
      obtain ⟨hz, hza, hzO, hmin⟩ := hb.2 z et
      have hza2 : a ≠ z := fun k => hza (by rw [k])
      have h3 : zl_cn (zl_lf T z) 16 ≤ 3 := zl_poor ha (fun y hy hya => hmin y hy (fun k => hya (Option.some.inj k).symm) (hall y hy))
      obtain ⟨g', B', V', G', F', T', k0, k1, k2, k3, k4, k5⟩ := zl_mo (xr := xr) (xg := xg) (xo := xo) (ca := ca) (di := di) hz hza2 ha hO h3 hd ht hv hF
      have hO31' := zl_o31 k1 ho
      obtain ⟨t2, hb2, hw2⟩ := zl_po (xr := xr) (xg := xg) (xn := nI g') (xo := xo) (rb := zl_nA B') (rv := V') (rg := zl_nA G') (fl := zl_nA F') (ca := ca) (di := di) hO31' (zl_t72 k2) hA
      have hem : zl_emp (zl_u O z none) := zl_empE hz
      have hc6' : zl_cn (zl_ef (zl_u O z none)) 6 ≤ 6 := zl_cn_b (zl_ef1 _) 6
      rw [et] at hw
      refine ⟨g', B', V', G', F', zl_u O z none, T', k0, k1, k2, k3, ?_, by omega, hem, fun post hp => br_f h60 (hw _ (zl_ez hO31 (br_f ?_ (br_f (zl_ne (by omega)) (k5 _
        (nm_r (show (0 : Int32) + 1 = 1 from rfl) (br_f h61 (hw2 _ (zl_ez hO31' (br_t (nI_lt (a := 0) (zl_ep hem) (by omega)) hp))))))))))⟩
      · rw [zl_un hza2]
        exact hO
      · rw [(by omega : zl_cn (zl_ef O) 6 = 0)]
        decide
theorem zl_mr28 (hd : zl_dev F O B G g o) (ht : zl_tab F B G T 72) (hv : zl_vv V T kp) (he : zl_emp O) (ho : o + 1 < 2 ^ 31) :
    ∃ (a g' : Nat) (B' : Nat → Nat) (V' : Nat → Int32) (G' F' : Nat → Nat) (O' T' : Nat → Option Nat), a < 6 ∧ g' ≤ g + 1 ∧ zl_dev F' O' B' G' g' (o + 1) ∧ zl_tab F' B' G' T' 72 ∧ zl_vv V' T' kp ∧ O' a ≠ none ∧ F' a ≤ 5 ∧ zl_emp O' ∧
      ∀ post : SX → Prop, post (xr, xg, nI a, nI g', nI (o + 1), zl_nA B', V', zl_nA G', zl_nA F', zl_oA O', zl_oA T', ca, di) → wX_makeRoom_28 post xr xg xa (nI g) (nI o) (zl_nA B) V (zl_nA G) (zl_nA F) (zl_oA O) (zl_oA T) ca di := by
  obtain ⟨z, hz, hzO, hw⟩ := zl_oz (xr := xr) (xg := xg) (xa := xa) (xn := nI g) (rb := zl_nA B) (rv := V) (rg := zl_nA G) (F := F) (tb := zl_oA T) (ca := ca) (di := di) (o := o) (zl_o31 hd (by omega)) he
  obtain ⟨e1, hd1⟩ := zl_devO hd hz hzO
  rw [e1] at hw
  obtain ⟨g', B', V', G', F', O', T', k0, k1, k2, k3, k4, k5, k6, k7⟩ := zl_mr34 (xr := xr) (xg := xg) (xo := nI (o + 1)) (ca := ca) (di := di) (O := zl_u O z (some (o + 1))) hz (by rw [zl_us]; exact fun k => nomatch k) hd1 ht hv (hd.2.1 z hz hzO) (by omega)
  exact ⟨z, g', B', V', G', F', O', T', hz, k0, k1, k2, k3, k4, k5, k6, fun post hp => hw _ ⟨2, k7 post hp⟩⟩
theorem zl_devo {o' : Nat} (hd : zl_dev F O B G g o) (h : o ≤ o') : zl_dev F O B G g o' :=
  ⟨hd.1, hd.2.1, hd.2.2.1, hd.2.2.2.1, fun z n hz e => Nat.le_trans (hd.2.2.2.2 z n hz e) h⟩
theorem zl_mr (hd : zl_dev F O B G g o) (ht : zl_tab F B G T 72) (hv : zl_vv V T kp) (hA : zl_act O A) (he : zl_emp O) (ho : o + 1 < 2 ^ 31) :
    ∃ (a g' o' : Nat) (B' : Nat → Nat) (V' : Nat → Int32) (G' F' : Nat → Nat) (O' T' : Nat → Option Nat), a < 6 ∧ g' ≤ g + 1 ∧ o' ≤ o + 1 ∧ zl_dev F' O' B' G' g' o' ∧ zl_tab F' B' G' T' 72 ∧ zl_vv V' T' kp ∧ O' a ≠ none ∧ F' a ≤ 5 ∧ zl_emp O' ∧
      ∀ post : SX → Prop, post (xr, xg, nI a, nI g', nI o', zl_nA B', V', zl_nA G', zl_nA F', zl_oA O', zl_oA T', ca, di) → wpX_makeRoom post (xr, xg, zl_oI A, nI g, nI o, zl_nA B, V, zl_nA G, zl_nA F, zl_oA O, zl_oA T, ca, di) := by
  obtain ⟨a, g', B', V', G', F', O', T', k0, k1, k2, k3, k4, k5, k6, k7, k8⟩ := zl_mr28 (xr := xr) (xg := xg) (xa := zl_oI A) (ca := ca) (di := di) hd ht hv he ho
  cases e : A with
  | none =>
    rw [e] at k8
    exact ⟨a, g', o + 1, B', V', G', F', O', T', k0, k1, Nat.le_refl _, k2, k3, k4, k5, k6, k7, fun post hp => br_t rfl (k8 post hp)⟩
  | some c =>
    rw [e] at k8
    obtain ⟨hc, hcO⟩ := hA c e
    have hF := hd.1 c hc
    have e7 : ((zl_nA F (nI c).toNatClampNeg) + 6) + 1 = nI (F c + 7) := by
      rw [zl_na (by omega), show (6 : Int32) = nI 6 from rfl, nI_add, nI_1]
    have hne : ¬ nI c = -1 := zl_ne (by omega)
    by_cases h5 : F c ≤ 5
    · refine ⟨c, g, o, B, V, G, F, O, T, hc, by omega, by omega, hd, ht, hv, hcO, h5, he, fun post hp => br_f hne ⟨vp_in_nI hc (by decide), br_f ?_ hp⟩⟩
      rw [show zl_oI (some c) = nI c from rfl, e7]
      exact nI_nlt (a := 12) (b := F c + 7) (by omega) (by omega)
    · refine ⟨a, g', o + 1, B', V', G', F', O', T', k0, k1, Nat.le_refl _, k2, k3, k4, k5, k6, k7, fun post hp => br_f hne ⟨vp_in_nI hc (by decide), br_t ?_ (k8 post hp)⟩⟩
      rw [show zl_oI (some c) = nI c from rfl, e7]
      exact nI_lt (a := 12) (by omega) (by omega)
theorem zl_f3 (ha : a < 6) (hO : O a ≠ none) (h11 : f0 + zl_cn (zl_df di) 16 ≤ 11) : ∀ d i : Nat, i + d = 16 → ∀ (x3 : Int32) (B : Nat → Nat) (V : Nat → Int32) (G F : Nat → Nat) (N : Nat → Option Nat),
    zl_dev F O B G g o → zl_tab F B G T 72 → zl_vv V T kp → zl_pd F B G a g i (fun b => ¬ di b = 0) → zl_nt F B V G g i (fun b => ¬ di b = 0) ca T N → F a ≤ f0 + zl_cn (zl_df di) i →
    ∃ (B' : Nat → Nat) (V' : Nat → Int32) (G' F' : Nat → Nat) (N' : Nat → Option Nat), zl_dev F' O B' G' g o ∧ zl_tab F' B' G' N' 72 ∧ zl_vv V' N' (fun b => if di b = 0 then kp b else ca b) ∧
      ∀ post : SX → Prop, post (xr, xg, nI a, nI g, xo, zl_nA B', V', zl_nA G', zl_nA F', zl_oA O, zl_oA N', ca, zl_fi 0 0 16 di) → wX_flush_33 post 3 x2 (d + 1) x3 (nI i) xr xg (nI a) (nI g) xo (zl_nA B) V (zl_nA G) (zl_nA F) (zl_oA O) (zl_oA N) ca di := by
  intro d
  induction d with
  | zero =>
    intro i hi x3 B V G F N hd ht hv hp hn hF
    obtain rfl : i = 16 := by omega
    have hf : F a < 12 := by omega
    obtain ⟨hD, hT⟩ := zl_mark hd ha hO hf ht hp hn
    refine ⟨_, zl_u V (12 * a + F a) 0, _, _, N, hD, hT, fun b hb => ?_, fun post hpost => br_t (nI_le (a := 16) (b := 16) (by decide) (by decide)) (br_t rfl (zl_ap (b := 16) ha hf rfl (zl_dr hpost)))⟩
    have h := zl_markV (x := 0) ha hf ht hv hn hb
    by_cases hP : di b = 0
    · show (if di b = 0 then kp b else ca b) = _
      rw [if_pos hP]
      exact (h.2 (fun k => k hP)).symm
    · show (if di b = 0 then kp b else ca b) = _
      rw [if_neg hP]
      exact (h.1 hP).symm
  | succ d ih =>
    intro i hi x3 B V G F N hd ht hv hp hn hF
    have hge : ¬ (16 : Int32) ≤ nI i := nI_ge (a := i) (b := 16) (by omega) (by decide)
    have hin : vp_in (nI i) 16 := vp_in_nI (by omega) (by decide)
    have hi2 : i < 2 ^ 31 := by omega
    have hm : zl_cn (zl_df di) i ≤ zl_cn (zl_df di) (i + 1) := zl_cn_m (by omega)
    have hm2 : zl_cn (zl_df di) (i + 1) ≤ zl_cn (zl_df di) 16 := zl_cn_m (by omega)
    have hf : F a < 12 := by omega
    by_cases e : di i = 0
    · obtain ⟨B', V', G', F', N', k1, k2, k3, k5⟩ := ih (i + 1) (by omega) x3 B V G F N hd ht hv (zl_pdS hp) (zl_ntS hn (fun k => k e)) (by omega)
      exact ⟨B', V', G', F', N', k1, k2, k3, fun post hpost => br_f hge ⟨hin, br_t (by rw [nI_clamp hi2]; exact e) (nm_r (nI_1 i) (k5 post hpost))⟩⟩
    · have hl : zl_cn (zl_df di) (i + 1) = zl_cn (zl_df di) i + zl_df di i := rfl
      rw [zl_dfn e] at hl
      obtain ⟨B', V', G', F', N', k1, k2, k3, k5⟩ := ih (i + 1) (by omega) (x3 + 1) _ _ _ _ _ (zl_app hd ha hO hf (by omega) (fun q q1 q2 => ⟨(hp q q1 q2).1, by have := (hp q q1 q2).2.1; omega⟩))
          (zl_appT ha hf (by omega) (zl_pdg hp (by omega)) ht) (zl_vvA (x := ca i) ha hf ht hv) (zl_pdA ha hf hp e) (zl_ntA ha hf hn e rfl) (by rw [zl_us]; omega)
      exact ⟨B', V', G', F', N', k1, k2, k3, fun post hpost => br_f hge ⟨hin, br_f (by rw [nI_clamp hi2]; exact e) (br_t (by decide) (And.intro hin (zl_ap ha hf (congrArg ca (nI_clamp hi2))
        (nm_e (br_t rfl (And.intro hin (nm_r (zl_uo (some (12 * a + F a)) rfl hi2) (nm_r (nI_1 i) (k5 post hpost)))))))))⟩⟩
theorem zl_fN (hx1 : ¬ x1 = 3) (ha : a < 6) (hO : O a ≠ none) (h11 : f0 + zl_cn (zl_df di) 16 ≤ 11) : ∀ d i : Nat, i + d = 16 → ∀ (x3 : Int32) (B : Nat → Nat) (V : Nat → Int32) (G F : Nat → Nat),
    zl_dev F O B G g o → zl_tab F B G T 72 → zl_vv V T kp → zl_pd F B G a g i (fun _ => True) → F a ≤ f0 + zl_cn (zl_df di) i →
    ∃ (B' : Nat → Nat) (V' : Nat → Int32) (G' F' : Nat → Nat), zl_dev F' O B' G' g o ∧ zl_tab F' B' G' T 72 ∧ zl_vv V' T kp ∧
      ∀ post : SX → Prop, post (xr, xg, nI a, nI g, xo, zl_nA B', V', zl_nA G', zl_nA F', zl_oA O, tb, ca, di) → wX_flush_33 post x1 x2 (d + 1) x3 (nI i) xr xg (nI a) (nI g) xo (zl_nA B) V (zl_nA G) (zl_nA F) (zl_oA O) tb ca di := by
  intro d
  induction d with
  | zero =>
    intro i hi x3 B V G F hd ht hv hp hF
    obtain rfl : i = 16 := by omega
    exact ⟨B, V, G, F, hd, ht, hv, fun post hpost => br_t (nI_le (a := 16) (b := 16) (by decide) (by decide)) (br_f hx1 hpost)⟩
  | succ d ih =>
    intro i hi x3 B V G F hd ht hv hp hF
    have hge : ¬ (16 : Int32) ≤ nI i := nI_ge (a := i) (b := 16) (by omega) (by decide)
    have hin : vp_in (nI i) 16 := vp_in_nI (by omega) (by decide)
    have hi2 : i < 2 ^ 31 := by omega
    have hm : zl_cn (zl_df di) i ≤ zl_cn (zl_df di) (i + 1) := zl_cn_m (by omega)
    have hm2 : zl_cn (zl_df di) (i + 1) ≤ zl_cn (zl_df di) 16 := zl_cn_m (by omega)
    have hf : F a < 12 := by omega
    by_cases e : di i = 0
    · obtain ⟨B', V', G', F', k1, k2, k3, k5⟩ := ih (i + 1) (by omega) x3 B V G F hd ht hv (zl_pdS hp) (by omega)
      exact ⟨B', V', G', F', k1, k2, k3, fun post hpost => br_f hge ⟨hin, br_t (by rw [nI_clamp hi2]; exact e) (nm_r (nI_1 i) (k5 post hpost))⟩⟩
    · have e' : ¬ di (nI i).toNatClampNeg = 0 := by rw [nI_clamp hi2]; exact e
      have hl : zl_cn (zl_df di) (i + 1) = zl_cn (zl_df di) i + zl_df di i := rfl
      rw [zl_dfn e] at hl
      by_cases c : ¬ 1 < x1 ∧ x2 ≤ 2 * x3
      · obtain ⟨B', V', G', F', k1, k2, k3, k5⟩ := ih (i + 1) (by omega) x3 B V G F hd ht hv (zl_pdS hp) (by omega)
        exact ⟨B', V', G', F', k1, k2, k3, fun post hpost => br_f hge ⟨hin, br_f e' (br_f c.1 (br_t c.2 (nm_r (nI_1 i) (k5 post hpost))))⟩⟩
      · obtain ⟨B', V', G', F', k1, k2, k3, k5⟩ := ih (i + 1) (by omega) (x3 + 1) _ _ _ _ (zl_app hd ha hO hf (by omega) (fun q q1 q2 => ⟨(hp q q1 q2).1, by have := (hp q q1 q2).2.1; omega⟩))
          (zl_appT ha hf (by omega) (zl_pdg hp (by omega)) ht) (zl_vvA (x := ca i) ha hf ht hv) (zl_pdA ha hf hp trivial) (by rw [zl_us]; omega)
        refine ⟨B', V', G', F', k1, k2, k3, fun post hpost => ?_⟩
        have W : wX_flush_62 post (wX_flush_33 post x1 x2 (d + 1)) x1 x2 x3 (nI i) xr xg (nI a) (nI g) xo (zl_nA B) V (zl_nA G) (zl_nA F) (zl_oA O) tb ca di :=
          And.intro hin (zl_ap ha hf (congrArg ca (nI_clamp hi2)) (nm_e (br_f hx1 (nm_r (nI_1 i) (k5 post hpost)))))
        exact br_f hge ⟨hin, br_f e' (br_c (fun _ => W) (fun c1 => br_c (fun c2 => absurd ⟨c1, c2⟩ c) (fun _ => W)))⟩
theorem zl_fl3 (hd : zl_dev F O B G g o) (ht : zl_tab F B G T 72) (hv : zl_vv V T kp) (hA : zl_act O A) (he : zl_emp O) (ho : o + 1 < 2 ^ 31) (h6 : zl_cn (zl_df di) 16 ≤ 6) (hdi : ∀ j, 16 ≤ j → di j = 0) :
    ∃ (A' : Option Nat) (g' o' : Nat) (B' : Nat → Nat) (V' : Nat → Int32) (G' F' : Nat → Nat) (O' T' : Nat → Option Nat), zl_dev F' O' B' G' g' o' ∧ zl_tab F' B' G' T' 72 ∧ zl_vv V' T' (fun b => if di b = 0 then kp b else ca b) ∧ zl_act O' A' ∧ zl_emp O' ∧ g' ≤ g + 2 ∧ o' ≤ o + 1 ∧
      ∀ post : SX → Prop, post (xr, xg, zl_oI A', nI g', nI o', zl_nA B', V', zl_nA G', zl_nA F', zl_oA O', zl_oA T', ca, fun _ => 0) → wpX_flush post (xr, xg, zl_oI A, nI g, nI o, zl_nA B, V, zl_nA G, zl_nA F, zl_oA O, zl_oA T, ca, di) 3 := by
  have hz : zl_fi 0 0 16 di = fun _ => 0 := by
    funext j
    by_cases k : j < 16
    · exact zl_fi_lt k
    · rw [zl_fi_ge (by omega)]
      exact hdi j (by omega)
  by_cases h0 : zl_cn (zl_df di) 16 = 0
  · have hd0 := zl_dall h0 hdi
    refine ⟨A, g, o, B, V, G, F, O, T, hd, ht, fun b hb => ?_, hA, he, by omega, by omega, fun post hp => zl_dc (br_t ?_ ?_)⟩
    · rw [hd0]
      exact hv b hb
    · rw [h0]
      rfl
    · rw [hd0]
      exact hp
  · obtain ⟨a, g', o', B', V', G', F', O', T', k0, k1, k2, k3, k4, k5, k6, k7, k8, k9⟩ := zl_mr (xr := xr) (xg := xg) (ca := ca) (di := di) hd ht hv hA he ho
    obtain ⟨B2, V2, G2, F2, N2, m1, m2, m3, m4⟩ := zl_f3 (di := di) (ca := ca) (xr := xr) (xg := xg) (xo := nI o') (x2 := nI (zl_cn (zl_df di) 16)) (f0 := F' a) k0 k6 (by omega) 16 0 rfl 0 B' V' G' F' T' (zl_devg k3) k4 k5 (zl_pd0 k3) zl_nt0 (by omega)
    rw [hz] at m4
    refine ⟨some a, g' + 1, o', B2, V2, G2, F2, O', N2, m1, m2, m3, fun b e => ?_, k8, by omega, k2, fun post hp => zl_dc (br_f (nI_ne0 (by omega) (by omega)) (br_f (by decide) (k9 _ (nm_r (nI_1 g') ⟨17, m4 post hp⟩))))⟩
    obtain rfl := Option.some.inj e
    exact ⟨k0, k6⟩
theorem zl_flN (hx1 : ¬ x1 = 3) (hd : zl_dev F O B G g o) (ht : zl_tab F B G T 72) (hv : zl_vv V T kp) (hA : zl_act O A) (he : zl_emp O) (ho : o + 1 < 2 ^ 31) (h6 : zl_cn (zl_df di) 16 ≤ 6) :
    ∃ (A' : Option Nat) (g' o' : Nat) (B' : Nat → Nat) (V' : Nat → Int32) (G' F' : Nat → Nat) (O' T' : Nat → Option Nat), zl_dev F' O' B' G' g' o' ∧ zl_tab F' B' G' T' 72 ∧ zl_vv V' T' kp ∧ zl_act O' A' ∧ zl_emp O' ∧ g' ≤ g + 2 ∧ o' ≤ o + 1 ∧
      ∀ post : SX → Prop, post (xr, xg, zl_oI A', nI g', nI o', zl_nA B', V', zl_nA G', zl_nA F', zl_oA O', zl_oA T', ca, di) → wpX_flush post (xr, xg, zl_oI A, nI g, nI o, zl_nA B, V, zl_nA G, zl_nA F, zl_oA O, zl_oA T, ca, di) x1 := by
  by_cases h0 : zl_cn (zl_df di) 16 = 0
  · exact ⟨A, g, o, B, V, G, F, O, T, hd, ht, hv, hA, he, by omega, by omega, fun post hp => zl_dc (br_t (by rw [h0]; rfl) hp)⟩
  · by_cases p0 : x1 = 0
    · exact ⟨A, g, o, B, V, G, F, O, T, hd, ht, hv, hA, he, by omega, by omega, fun post hp => zl_dc (br_f (nI_ne0 (by omega) (by omega)) (br_t p0 hp))⟩
    · obtain ⟨a, g', o', B', V', G', F', O', T', k0, k1, k2, k3, k4, k5, k6, k7, k8, k9⟩ := zl_mr (xr := xr) (xg := xg) (ca := ca) (di := di) hd ht hv hA he ho
      obtain ⟨B2, V2, G2, F2, m1, m2, m3, m4⟩ := zl_fN (di := di) (xr := xr) (xg := xg) (xo := nI o') (tb := zl_oA T') (x2 := nI (zl_cn (zl_df di) 16)) (ca := ca) (f0 := F' a) hx1 k0 k6 (by omega) 16 0 rfl 0 B' V' G' F' (zl_devg k3) k4 k5 (zl_pd0 k3) (by omega)
      refine ⟨some a, g' + 1, o', B2, V2, G2, F2, O', T', m1, m2, m3, fun b e => ?_, k8, by omega, k2, fun post hp => zl_dc (br_f (nI_ne0 (by omega) (by omega)) (br_f p0 (k9 _ (nm_r (nI_1 g') ⟨17, m4 post hp⟩))))⟩
      obtain rfl := Option.some.inj e
      exact ⟨k0, k6⟩
end
end
section
section
variable {xr xg xa xn xo : Int32} {rb rv rg fl op tb ca di kp : Nat → Int32} {F B G : Nat → Nat} {V : Nat → Int32} {O T T1 : Nat → Option Nat} {A : Option Nat} {a g o n b i : Nat}
theorem zl_i6 (hi : i < 72) : vp_in (nI i / 12) 6 := by
  rw [zl_12 (by omega)]
  exact vp_in_nI (by omega) (by decide)
theorem zl_ifl (hi : i < 72) : zl_nA F (nI i / 12).toNatClampNeg = nI (F (i / 12)) := by
  rw [zl_12 (by omega)]
  exact zl_na (by omega)
theorem zl_co2 (hd : zl_dev F O B G g o) (hg : g < 2 ^ 31) (hn : n < 2 ^ 31) : ∀ d i : Nat, i + d = 72 → (∀ p, p < i → zl_va F p → B p = 16 → G p ≠ n) → ∀ post : Int32 → Prop, (zl_mk F B G n → post 1) → (¬ zl_mk F B G n → post 0) →
    wX_counts_2 post (nI n) xr xg xa xn xo (zl_nA B) rv (zl_nA G) (zl_nA F) op tb ca di (d + 1) (nI i) := by
  intro d
  induction d with
  | zero =>
    intro i hi hq post h1 h0
    obtain rfl : i = 72 := by omega
    refine br_t (nI_le (a := 72) (b := 72) (by decide) (by decide)) (h0 ?_)
    rintro ⟨p, v, e, e2⟩
    exact hq p v.1 v e e2
  | succ d ih =>
    intro i hi hq post h1 h0
    have hi2 : i < 72 := by omega
    have hi3 : i < 2 ^ 31 := by omega
    have h72 : vp_in (nI i) 72 := vp_in_nI hi2 (by decide)
    have hF := hd.1 (i / 12) (by omega)
    have nx : (zl_va F i → B i = 16 → G i ≠ n) → ∀ p, p < i + 1 → zl_va F p → B p = 16 → G p ≠ n := by
      intro k p hp hv e
      by_cases c : p = i
      · rw [c] at hv e ⊢
        exact k hv e
      · exact hq p (by omega) hv e
    refine br_f (nI_ge (a := i) (b := 72) hi2 (by decide)) ⟨zl_n12, zl_n12, zl_i6 hi2, pk_le (F (i / 12)) (i % 12)
      (fun h => nm_r (nI_1 i) (ih (i + 1) (by omega) (nx (fun v => by have := v.2; omega)) post h1 h0))
      (fun h => ⟨h72, ?_⟩) (zl_ifl hi2) (zl_r12 hi3) (by omega) (by omega)⟩
    have hv : zl_va F i := ⟨hi2, h⟩
    have hb := hd.2.2.1 i hv
    exact pk_eq (B i) 16 (fun e => ⟨h72, pk_eq (G i) n (fun e2 => h1 ⟨i, hv, e, e2⟩) (fun e2 => nm_r (nI_1 i) (ih (i + 1) (by omega) (nx (fun _ _ => e2)) post h1 h0)) (zl_na hi3) rfl (by omega) hn⟩)
      (fun e => nm_r (nI_1 i) (ih (i + 1) (by omega) (nx (fun _ k => absurd k e)) post h1 h0)) (zl_na hi3) rfl (by omega) (by decide)
theorem zl_co {post : Int32 → Prop} {x : Int32} (hd : zl_dev F O B G g o) (hg : g < 2 ^ 31) (hn : n < 2 ^ 31) (hx : x = nI n) (h1 : zl_mk F B G n → post 1) (h0 : ¬ zl_mk F B G n → post 0) :
    wpX_counts post (xr, xg, xa, xn, xo, zl_nA B, rv, zl_nA G, zl_nA F, op, tb, ca, di) x := by
  subst hx
  exact ⟨73, zl_co2 hd hg hn 72 0 rfl (fun p hp => absurd hp (Nat.not_lt_zero _)) post h1 h0⟩
theorem zl_tabK (ht : zl_tab F B G T i) (h : zl_va F i → B i < 16 → zl_mk F B G (G i) → ∃ p, T (B i) = some p ∧ G i ≤ G p) : zl_tab F B G T (i + 1) := by
  intro b hb
  refine ⟨fun e q hq hv hB hm => ?_, fun p e => ?_⟩
  · by_cases c : q = i
    · subst c
      obtain ⟨p, h1, _⟩ := h hv (by omega) hm
      rw [hB, e] at h1
      exact nomatch h1
    · exact (ht b hb).1 e q (by omega) hv hB hm
  · obtain ⟨k1, k2, k3, k4⟩ := (ht b hb).2 p e
    refine ⟨k1, k2, k3, fun q hq hv hB hm => ?_⟩
    by_cases c : q = i
    · subst c
      obtain ⟨p2, h1, h2⟩ := h hv (by omega) hm
      rw [hB, e] at h1
      rw [Option.some.inj h1]
      exact h2
    · exact k4 q (by omega) hv hB hm
theorem zl_tabU (ht : zl_tab F B G T i) (hv : zl_va F i) (hb : B i = b) (hb6 : b < 16) (hm : zl_mk F B G (G i)) (h : ∀ p, T b = some p → G p ≤ G i) : zl_tab F B G (zl_u T b (some i)) (i + 1) := by
  intro c hc
  by_cases k : c = b
  · subst k
    rw [zl_us]
    refine ⟨fun e => (nomatch e), fun p e => ?_⟩
    obtain rfl := Option.some.inj e
    refine ⟨hv, hb, hm, fun q hq hqv hqB hqm => ?_⟩
    by_cases c2 : q = i
    · rw [c2]
      exact Nat.le_refl _
    · cases e2 : T c with
      | none => exact absurd hqm ((ht c hc).1 e2 q (by omega) hqv hqB)
      | some p =>
        exact Nat.le_trans (((ht c hc).2 p e2).2.2.2 q (by omega) hqv hqB hqm) (h p e2)
  · rw [zl_un k]
    refine ⟨fun e q hq hqv hqB hqm => ?_, fun p e => ?_⟩
    · have c2 : q ≠ i := fun c2 => k (by rw [← hqB, c2]; exact hb)
      exact (ht c hc).1 e q (by omega) hqv hqB hqm
    · obtain ⟨k1, k2, k3, k4⟩ := (ht c hc).2 p e
      refine ⟨k1, k2, k3, fun q hq hqv hqB hqm => ?_⟩
      have c2 : q ≠ i := fun c2 => k (by rw [← hqB, c2]; exact hb)
      exact k4 q (by omega) hqv hqB hqm
theorem zl_tabQ (hd : zl_dev F O B G g o) (h : zl_tab F B G T 72) (h1 : zl_tab F B G T1 72) (hb : b < 16) : T b = T1 b := by
  cases e : T b with
  | none =>
    cases e1 : T1 b with
    | none => rfl
    | some p =>
      obtain ⟨k1, k2, k3, k4⟩ := (h1 b hb).2 p e1
      exact absurd k3 ((h b hb).1 e p k1.1 k1 k2)
  | some q =>
    obtain ⟨m1, m2, m3, m4⟩ := (h b hb).2 q e
    cases e1 : T1 b with
    | none => exact absurd m3 ((h1 b hb).1 e1 q m1.1 m1 m2)
    | some p =>
      obtain ⟨k1, k2, k3, k4⟩ := (h1 b hb).2 p e1
      have a1 := m4 p k1.1 k1 k2 k3
      have a2 := k4 q m1.1 m1 m2 m3
      rw [(hd.2.2.2.1 q p m1 k1 (by omega)).2 (m2.trans k2.symm)]
theorem zl_re2 (hd : zl_dev F O B G g o) (hg : g < 2 ^ 31) : ∀ d i : Nat, i + d = 72 → ∀ T : Nat → Option Nat, zl_tab F B G T i → ∃ T' : Nat → Option Nat, zl_tab F B G T' 72 ∧
    ∀ post : SX → Prop, (∃ n, wX_recover_105 post xr xg xn xo (zl_nA B) rv (zl_nA G) (zl_nA F) op (zl_oA T') ca di n 0 (-1)) → wX_recover_2 post xr xg xa xn xo (d + 1) (nI i) (zl_nA B) rv (zl_nA G) (zl_nA F) op (zl_oA T) ca di := by
  intro d
  induction d with
  | zero =>
    intro i hi T ht
    obtain rfl : i = 72 := by omega
    exact ⟨T, ht, fun post hp => br_t (nI_le (a := 72) (b := 72) (by decide) (by decide)) hp⟩
  | succ d ih =>
    intro i hi T ht
    have hi2 : i < 72 := by omega
    have hi3 : i < 2 ^ 31 := by omega
    have hge : ¬ (72 : Int32) ≤ nI i := nI_ge (a := i) (b := 72) hi2 (by decide)
    have h72 : vp_in (nI i) 72 := vp_in_nI hi2 (by decide)
    have hF := hd.1 (i / 12) (by omega)
    by_cases hf : F (i / 12) ≤ i % 12
    · obtain ⟨T', k1, k2⟩ := ih (i + 1) (by omega) T (zl_tabK ht (fun v => by have := v.2; omega))
      refine ⟨T', k1, fun post hp => br_f hge ⟨zl_n12, zl_n12, zl_i6 hi2, br_t ?_ (nm_r (nI_1 i) (k2 post hp))⟩⟩
      rw [zl_ifl hi2, zl_r12 hi3]
      exact nI_le hf (by omega)
    · have hv : zl_va F i := ⟨hi2, by omega⟩
      have hb := hd.2.2.1 i hv
      have hnf : ¬ zl_nA F (nI i / 12).toNatClampNeg ≤ nI i - nI i / 12 * 12 := by
        rw [zl_ifl hi2, zl_r12 hi3]
        exact nI_ge (by omega) (by omega)
      by_cases h16 : B i = 16
      · obtain ⟨T', k1, k2⟩ := ih (i + 1) (by omega) T (zl_tabK ht (fun _ k => by omega))
        refine ⟨T', k1, fun post hp => br_f hge ⟨zl_n12, zl_n12, zl_i6 hi2, br_f hnf ⟨h72, br_t ?_ (nm_r (nI_1 i) (k2 post hp))⟩⟩⟩
        rw [zl_na hi3, h16]
        rfl
      · have hn16 : ¬ zl_nA B (nI i).toNatClampNeg = 16 := by
          rw [zl_na hi3]
          exact fun k => h16 ((nI_eq (a := B i) (b := 16) (by omega) (by decide)).mp k)
        by_cases hm : zl_mk F B G (G i)
        · have hbi : B i < 16 := by omega
          have hbi3 : B i < 2 ^ 31 := by omega
          have hib : vp_in (nI (B i)) 16 := vp_in_nI hbi (by decide)
          cases e : T (B i) with
          | none =>
            obtain ⟨T', k1, k2⟩ := ih (i + 1) (by omega) _ (zl_tabU ht hv rfl hbi hm (fun p k => nomatch e.symm.trans k))
            refine ⟨T', k1, fun post hp => br_f hge ⟨zl_n12, zl_n12, zl_i6 hi2, br_f hnf ⟨h72, br_f hn16 ⟨h72, zl_co hd hg (by omega) (zl_na hi3) (fun _ => br_f (by decide) ⟨h72, nm_r (zl_na hi3) ⟨hib, br_t ?_ ⟨hib, nm_r (zl_uo (some i) rfl hbi3) (nm_r (nI_1 i) (k2 post hp))⟩⟩⟩) (fun k => absurd hm k)⟩⟩⟩⟩
            rw [zl_oa hbi3, e]
            rfl
          | some p =>
            obtain ⟨p1, p2, p3, p4⟩ := (ht (B i) hbi).2 p e
            have hp72 : p < 72 := p1.1
            have hpg := (hd.2.2.1 p p1).1
            have htb : zl_oA T (nI (B i)).toNatClampNeg = nI p := by rw [zl_oa hbi3, e]; rfl
            have hne : ¬ zl_oA T (nI (B i)).toNatClampNeg = -1 := by rw [htb]; exact zl_ne (by omega)
            have hin : vp_in (zl_oA T (nI (B i)).toNatClampNeg) 72 := by rw [htb]; exact vp_in_nI hp72 (by decide)
            have hgp : zl_nA G (zl_oA T (nI (B i)).toNatClampNeg).toNatClampNeg = nI (G p) := by rw [htb]; exact zl_na (by omega)
            by_cases hc : G i ≤ G p
            · obtain ⟨T', k1, k2⟩ := ih (i + 1) (by omega) T (zl_tabK ht (fun _ _ _ => ⟨p, e, hc⟩))
              refine ⟨T', k1, fun post hp => br_f hge ⟨zl_n12, zl_n12, zl_i6 hi2, br_f hnf ⟨h72, br_f hn16 ⟨h72, zl_co hd hg (by omega) (zl_na hi3) (fun _ => br_f (by decide) ⟨h72, nm_r (zl_na hi3) ⟨hib, br_f hne ⟨hib, hin, h72, br_t ?_ (nm_r (nI_1 i) (k2 post hp))⟩⟩⟩) (fun k => absurd hm k)⟩⟩⟩⟩
              rw [zl_na hi3, hgp]
              exact nI_le hc (by omega)
            · obtain ⟨T', k1, k2⟩ := ih (i + 1) (by omega) _ (zl_tabU ht hv rfl hbi hm (fun q k => by rw [Option.some.inj (k.symm.trans e)]; omega))
              refine ⟨T', k1, fun post hp => br_f hge ⟨zl_n12, zl_n12, zl_i6 hi2, br_f hnf ⟨h72, br_f hn16 ⟨h72, zl_co hd hg (by omega) (zl_na hi3) (fun _ => br_f (by decide) ⟨h72, nm_r (zl_na hi3) ⟨hib, br_f hne ⟨hib, hin, h72, br_f ?_ ⟨hib, nm_r (zl_uo (some i) rfl hbi3) (nm_r (nI_1 i) (k2 post hp))⟩⟩⟩⟩) (fun k => absurd hm k)⟩⟩⟩⟩
              rw [zl_na hi3, hgp]
              exact nI_ge (by omega) (by omega)
        · obtain ⟨T', k1, k2⟩ := ih (i + 1) (by omega) T (zl_tabK ht (fun _ _ k => absurd k hm))
          exact ⟨T', k1, fun post hp => br_f hge ⟨zl_n12, zl_n12, zl_i6 hi2, br_f hnf ⟨h72, br_f hn16 ⟨h72, zl_co hd hg (by omega) (zl_na hi3) (fun k => absurd k hm) (fun _ => br_t rfl (nm_r (nI_1 i) (k2 post hp)))⟩⟩⟩⟩
theorem zl_re5 (hO : ∀ z n, z < 6 → O z = some n → n < 2 ^ 31) : ∀ d i : Nat, i + d = 6 → ∀ A : Option Nat, zl_act O A → ∃ A' : Option Nat, zl_act O A' ∧
    ∀ post : SX → Prop, post (xr, xg, zl_oI A', xn, xo, rb, rv, rg, fl, zl_oA O, tb, ca, di) → wX_recover_105 post xr xg xn xo rb rv rg fl (zl_oA O) tb ca di (d + 1) (nI i) (zl_oI A) := by
  intro d
  induction d with
  | zero =>
    intro i hi A hA
    obtain rfl : i = 6 := by omega
    exact ⟨A, hA, fun post hp => br_t (nI_le (a := 6) (b := 6) (by decide) (by decide)) hp⟩
  | succ d ih =>
    intro i hi A hA
    have hge : ¬ (6 : Int32) ≤ nI i := nI_ge (a := i) (b := 6) (by omega) (by decide)
    have hin : vp_in (nI i) 6 := vp_in_nI (by omega) (by decide)
    have hi3 : i < 2 ^ 31 := by omega
    cases e : O i with
    | none =>
      obtain ⟨A', k1, k2⟩ := ih (i + 1) (by omega) A hA
      refine ⟨A', k1, fun post hp => br_f hge ⟨hin, br_t ?_ (nm_r (nI_1 i) (k2 post hp))⟩⟩
      rw [zl_oa hi3, e]
      rfl
    | some n =>
      have hne : ¬ zl_oA O (nI i).toNatClampNeg = -1 := by
        rw [zl_oa hi3, e]
        exact zl_ne (hO i n (by omega) e)
      have hAi : zl_act O (some i) := by
        intro c k
        obtain rfl := Option.some.inj k
        exact ⟨by omega, fun k2 => nomatch e.symm.trans k2⟩
      cases eA : A with
      | none =>
        obtain ⟨A', k1, k2⟩ := ih (i + 1) (by omega) (some i) hAi
        exact ⟨A', k1, fun post hp => br_f hge ⟨hin, br_f hne (br_t rfl (nm_r (nI_1 i) (k2 post hp)))⟩⟩
      | some c =>
        have hc := (hA c eA).1
        have hcn : ¬ nI c = -1 := zl_ne (by omega)
        have hcin : vp_in (nI c) 6 := vp_in_nI hc (by decide)
        by_cases hl : zl_oA O (nI i).toNatClampNeg ≤ zl_oA O (nI c).toNatClampNeg
        · obtain ⟨A', k1, k2⟩ := ih (i + 1) (by omega) (some c) (eA ▸ hA)
          exact ⟨A', k1, fun post hp => br_f hge ⟨hin, br_f hne (br_f hcn ⟨hin, hcin, br_t hl (nm_r (nI_1 i) (k2 post hp))⟩)⟩⟩
        · obtain ⟨A', k1, k2⟩ := ih (i + 1) (by omega) (some i) hAi
          exact ⟨A', k1, fun post hp => br_f hge ⟨hin, br_f hne (br_f hcn ⟨hin, hcin, br_f hl (nm_r (nI_1 i) (k2 post hp))⟩)⟩⟩
theorem zl_re (hd : zl_dev F O B G g o) (hg : g < 2 ^ 31) (ho : o < 2 ^ 31) (hT : ∀ b, b < 16 → T b = none) : ∃ (A' : Option Nat) (T' : Nat → Option Nat), zl_act O A' ∧ zl_tab F B G T' 72 ∧
    ∀ post : SX → Prop, post (xr, xg, zl_oI A', xn, xo, zl_nA B, V, zl_nA G, zl_nA F, zl_oA O, zl_oA T', ca, di) → wpX_recover post (xr, xg, xa, xn, xo, zl_nA B, V, zl_nA G, zl_nA F, zl_oA O, zl_oA T, ca, di) := by
  obtain ⟨T', k1, k2⟩ := zl_re2 (xr := xr) (xg := xg) (xa := xa) (xn := xn) (xo := xo) (rv := V) (op := zl_oA O) (ca := ca) (di := di) hd hg 72 0 rfl T (fun b hb => ⟨fun _ q hq => absurd hq (Nat.not_lt_zero _), fun p e => nomatch (hT b hb).symm.trans e⟩)
  obtain ⟨A', m1, m2⟩ := zl_re5 (xr := xr) (xg := xg) (xn := xn) (xo := xo) (rb := zl_nA B) (rv := V) (rg := zl_nA G) (fl := zl_nA F) (tb := zl_oA T') (ca := ca) (di := di) (zl_o31 hd ho) 6 0 rfl none (fun c k => nomatch k)
  exact ⟨A', T', m1, k1, fun post hp => ⟨73, k2 post ⟨7, m2 post hp⟩⟩⟩
theorem zl_cl11 (hx : xa = zl_oI A) (ho : o < 2 ^ 31) : ∀ d i : Nat, i + d = 6 → ∀ (F : Nat → Nat) (O : Nat → Option Nat), zl_dev F O B G g o → zl_tab F B G T 72 → zl_act O A → zl_emp O →
    ∃ (F' : Nat → Nat) (O' : Nat → Option Nat), zl_dev F' O' B G g o ∧ zl_tab F' B G T 72 ∧ zl_act O' A ∧ zl_emp O' ∧
    ∀ post : Int32 → SX → Prop, post 0 (xr, xg, xa, xn, xo, rb, rv, rg, zl_nA F', zl_oA O', zl_oA T, ca, di) → wX_clean_11 post (d + 1) (nI i) xr xg xa xn xo rb rv rg (zl_nA F) (zl_oA O) (zl_oA T) ca di := by
  intro d
  induction d with
  | zero =>
    intro i hi F O hd ht hA he
    obtain rfl : i = 6 := by omega
    exact ⟨F, O, hd, ht, hA, he, fun post hp => br_t (nI_le (a := 6) (b := 6) (by decide) (by decide)) hp⟩
  | succ d ih =>
    intro i hi F O hd ht hA he
    have hge : ¬ (6 : Int32) ≤ nI i := nI_ge (a := i) (b := 6) (by omega) (by decide)
    have hin : vp_in (nI i) 6 := vp_in_nI (by omega) (by decide)
    have hi3 : i < 2 ^ 31 := by omega
    have hA31 : ∀ c, A = some c → c < 2 ^ 31 := fun c e => by
      have := (hA c e).1
      omega
    have hO31 := zl_o31 hd ho
    by_cases c : A = some i
    · obtain ⟨F', O', k1, k2, k3, k4, k5⟩ := ih (i + 1) (by omega) F O hd ht hA he
      exact ⟨F', O', k1, k2, k3, k4, fun post hp => br_f hge (zl_ba i A rfl hx hi3 hA31 (fun _ => nm_r (nI_1 i) (k5 post hp)) (fun k => absurd c k))⟩
    · cases e : O i with
      | none =>
        obtain ⟨F', O', k1, k2, k3, k4, k5⟩ := ih (i + 1) (by omega) F O hd ht hA he
        exact ⟨F', O', k1, k2, k3, k4, fun post hp => br_f hge (zl_ba i A rfl hx hi3 hA31 (fun k => absurd k c) (fun _ => ⟨hin, zl_bo (O i) (zl_oa hi3) (fun n => hO31 i n (by omega)) (fun _ => nm_r (nI_1 i) (k5 post hp)) (fun n k => nomatch e.symm.trans k)⟩))⟩
      | some n =>
        have hl := zl_lv16 T i
        by_cases h0 : zl_cn (zl_lf T i) 16 = 0
        · obtain ⟨F', O', k1, k2, k3, k4, k5⟩ := ih (i + 1) (by omega) _ _ (zl_devE (z := i) hd) (zl_tabE (z := i) hd ht (fun b p hb e2 k => by
            have h1 := zl_cn_0 h0 hb
            rw [zl_lfy e2 k] at h1
            omega)) (zl_actE hA c) (zl_empE (by omega))
          exact ⟨F', O', k1, k2, k3, k4, fun post hp => br_f hge (zl_ba i A rfl hx hi3 hA31 (fun k => absurd k c) (fun _ => ⟨hin, zl_bo (O i) (zl_oa hi3) (fun n => hO31 i n (by omega)) (fun k => nomatch e.symm.trans k)
            (fun _ _ => zl_lv hi3 (zl_t72 ht) (br_t (by rw [h0]; rfl) (zl_em (by omega) (nm_r (nI_1 i) (k5 post hp)))))⟩))⟩
        · obtain ⟨F', O', k1, k2, k3, k4, k5⟩ := ih (i + 1) (by omega) F O hd ht hA he
          exact ⟨F', O', k1, k2, k3, k4, fun post hp => br_f hge (zl_ba i A rfl hx hi3 hA31 (fun k => absurd k c) (fun _ => ⟨hin, zl_bo (O i) (zl_oa hi3) (fun n => hO31 i n (by omega)) (fun k => nomatch e.symm.trans k)
            (fun _ _ => zl_lv hi3 (zl_t72 ht) (br_f (nI_ne0 (by omega) (by omega)) (nm_r (nI_1 i) (k5 post hp))))⟩))⟩
theorem zl_ck13 (hd : zl_dev F O B G g o) (hg : g < 2 ^ 31) (ht : zl_tab F B G T 72) : ∀ d i : Nat, i + d = 16 → ∀ post : Int32 → Prop, post 0 → wX_check_13 post xr xg xa xn xo (zl_nA B) rv (zl_nA G) (zl_nA F) op (zl_oA T) ca di (d + 1) 0 (nI i) := by
  intro d
  induction d with
  | zero =>
    intro i hi post hp
    obtain rfl : i = 16 := by omega
    exact br_t (nI_le (a := 16) (b := 16) (by decide) (by decide)) hp
  | succ d ih =>
    intro i hi post hp
    have hge : ¬ (16 : Int32) ≤ nI i := nI_ge (a := i) (b := 16) (by omega) (by decide)
    have hin : vp_in (nI i) 16 := vp_in_nI (by omega) (by decide)
    have hi3 : i < 2 ^ 31 := by omega
    have k := ih (i + 1) (by omega) post hp
    cases e : T i with
    | none => exact br_f hge ⟨hin, nm_r ((zl_oa hi3).trans (zl_oIn e)) (br_t rfl (nm_r (nI_1 i) k))⟩
    | some p =>
      obtain ⟨p1, p2, p3, p4⟩ := (ht i (by omega)).2 p e
      have hp72 : p < 72 := p1.1
      have hpl := p1.2
      have hp31 : p < 2 ^ 31 := by omega
      have hF := hd.1 (p / 12) (by omega)
      have hpg := (hd.2.2.1 p p1).1
      have h72 : vp_in (nI p) 72 := vp_in_nI hp72 (by decide)
      have hnf : ¬ zl_nA F (nI p / 12).toNatClampNeg ≤ nI p - nI p / 12 * 12 := by
        rw [zl_ifl hp72, zl_r12 hp31]
        exact nI_ge (by omega) (by omega)
      exact br_f hge ⟨hin, nm_r ((zl_oa hi3).trans (zl_oIs e)) (br_f (zl_ne hp31) ⟨h72, br_t ((zl_na hp31).trans (congrArg nI p2)) ⟨zl_n12, zl_n12, zl_i6 hp72, br_f hnf ⟨h72, zl_co hd hg (by omega) (zl_na hp31) (fun _ => br_f (by decide) (nm_r (nI_1 i) k)) (fun q => absurd p3 q)⟩⟩⟩)⟩
theorem zl_st {post : Int32 → Prop} (hb : b < 16) (hT : ∀ b p, b < 16 → T b = some p → p < 72) (hp : post (zl_vl V (T b))) : wpX_stored post (xr, xg, xa, xn, xo, rb, V, rg, fl, op, zl_oA T, ca, di) (nI b) := by
  have hin : vp_in (nI b) 16 := vp_in_nI hb (by decide)
  refine ⟨hin, zl_bo (T b) (zl_oa (by omega)) (fun p e => by have := hT b p hb e; omega) (fun e => ?_) (fun p e => ⟨hin, ?_, ?_⟩)⟩
  · rw [e] at hp
    exact hp
  · rw [zl_oa (by omega), e]
    exact vp_in_nI (hT b p hb e) (by decide)
  · rw [e] at hp
    rw [zl_oa (by omega), e]
    show post (V (nI p).toNatClampNeg)
    rw [nI_clamp (by have := hT b p hb e; omega)]
    exact hp
theorem zl_cu {post : Int32 → Prop} (hb : b < 16) (hT : ∀ b p, b < 16 → T b = some p → p < 72) (hp : post (if di b = 0 then zl_vl V (T b) else ca b)) : wpX_current post (xr, xg, xa, xn, xo, rb, V, rg, fl, op, zl_oA T, ca, di) (nI b) := by
  have hin : vp_in (nI b) 16 := vp_in_nI hb (by decide)
  have hb3 : b < 2 ^ 31 := by omega
  refine ⟨hin, zl_b0 (di b) (congrArg di (nI_clamp hb3)) (fun e => zl_st hb hT ?_) (fun e => ⟨hin, ?_⟩)⟩
  · rw [if_pos e] at hp
    exact hp
  · rw [if_neg e] at hp
    rw [nI_clamp hb3]
    exact hp
def zl_sm (w : Nat → Int32) : Nat → Int32
  | 0 => 0
  | n + 1 => zl_sm w n + w n
theorem zl_sx {w : Nat → Int32} (hT : ∀ b p, b < 16 → T b = some p → p < 72) (hw : ∀ b, b < 16 → w b = if di b = 0 then zl_vl V (T b) else ca b) : ∀ d i : Nat, i + d = 16 → ∀ post : Int32 → Prop, post (zl_sm w 16) →
    wX_sum_13 post xr xg xa xn xo rb V rg fl op (zl_oA T) ca di (d + 1) (zl_sm w i) (nI i) := by
  intro d
  induction d with
  | zero =>
    intro i hi post hp
    obtain rfl : i = 16 := by omega
    exact br_t (nI_le (a := 16) (b := 16) (by decide) (by decide)) hp
  | succ d ih =>
    intro i hi post hp
    refine br_f (nI_ge (a := i) (b := 16) (by omega) (by decide)) (zl_cu (by omega) hT ?_)
    rw [← hw i (by omega)]
    exact nm_r (e' := zl_sm w (i + 1)) rfl (nm_r (nI_1 i) (ih (i + 1) (by omega) post hp))
theorem zl_px {f : Nat → Nat} (hT : ∀ b p, b < 16 → T b = some p → p < 72) (h0 : ∀ b, b < 16 → di b = 0 → f b = 0) (h1 : ∀ b, b < 16 → ¬ di b = 0 → ca b = zl_vl V (T b) → f b = 0) (h2 : ∀ b, b < 16 → ¬ di b = 0 → ¬ ca b = zl_vl V (T b) → f b = 1) :
    ∀ d i : Nat, i + d = 16 → ∀ post : Int32 → Prop, post (nI (zl_cn f 16)) → wX_pending_13 post xr xg xa xn xo rb V rg fl op (zl_oA T) ca di (d + 1) (nI (zl_cn f i)) (nI i) := by
  intro d
  induction d with
  | zero =>
    intro i hi post hp
    obtain rfl : i = 16 := by omega
    exact br_t (nI_le (a := 16) (b := 16) (by decide) (by decide)) hp
  | succ d ih =>
    intro i hi post hp
    have hi6 : i < 16 := by omega
    have hi3 : i < 2 ^ 31 := by omega
    have hin : vp_in (nI i) 16 := vp_in_nI (by omega) (by decide)
    have k := ih (i + 1) (by omega) post hp
    refine br_f (nI_ge (a := i) (b := 16) (by omega) (by decide)) ⟨hin, zl_b0 (di i) (congrArg di (nI_clamp hi3)) (fun e => nm_r (zl_c0 (h0 i hi6 e)) (nm_r (nI_1 i) k)) (fun e => ⟨hin, zl_st hi6 hT ?_⟩)⟩
    rw [nI_clamp hi3]
    exact br_c (fun c => nm_r (zl_c0 (h1 i hi6 e c)) (nm_r (nI_1 i) k)) (fun c => nm_r (zl_c1 (h2 i hi6 e c)) (nm_r (nI_1 i) k))
end
end
section
section
variable {yo yg x1 x2 : Int32} {nw kp fr : Nat → Int32} {b : Nat}
theorem zl_yf4 : ∀ d i : Nat, i + d = 16 → ∀ post : Int32 → Prop, post (nI (zl_cn (zl_df fr) 16)) → wY_freshCount_4 post yo yg nw kp fr (d + 1) (nI (zl_cn (zl_df fr) i)) (nI i) := by
  intro d
  induction d with
  | zero =>
    intro i hi post hp
    obtain rfl : i = 16 := by omega
    exact br_t (nI_le (a := 16) (b := 16) (by decide) (by decide)) hp
  | succ d ih =>
    intro i hi post hp
    have k := ih (i + 1) (by omega) post hp
    refine br_f (nI_ge (a := i) (b := 16) (by omega) (by decide)) ⟨vp_in_nI (by omega) (by decide), zl_b0 (fr i) (congrArg fr (nI_clamp (by omega)))
      (fun h => nm_r (nI_1 i) ?_)
      (fun h => nm_r (zl_c1 (zl_dfn h)) (nm_r (nI_1 i) k))⟩
    rw [zl_cs (zl_dfz h)]
    exact k
theorem zl_yf {post : Int32 → Prop} (hp : post (nI (zl_cn (zl_df fr) 16))) : wpY_freshCount post (yo, yg, nw, kp, fr) := ⟨17, zl_yf4 16 0 rfl post hp⟩
theorem zl_yk7 (h : ¬ x1 = 0) : ∀ d i : Nat, i + d = 16 → ∀ (kp fr : Nat → Int32) (post : Int32 → SY → Prop), post x2 (yo, yg, nw, zl_cp nw i 16 kp, zl_fi 0 i 16 fr) → wY_settle_7 post x1 x2 yo yg (d + 1) (nI i) nw kp fr := by
  intro d
  induction d with
  | zero =>
    intro i hi kp fr post hp
    obtain rfl : i = 16 := by omega
    rw [zl_fi_e, zl_cp_e] at hp
    exact br_t (nI_le (a := 16) (b := 16) (by decide) (by decide)) hp
  | succ d ih =>
    intro i hi kp fr post hp
    have hin : vp_in (nI i) 16 := vp_in_nI (by omega) (by decide)
    have hi3 : i < 2 ^ 31 := by omega
    rw [← zl_fi_s (by omega), ← zl_cp_s (by omega)] at hp
    refine br_f (nI_ge (a := i) (b := 16) (by omega) (by decide)) (br_f h ⟨hin, hin, nm_r (e' := zl_u kp i (nw i)) ?_ ⟨hin, nm_r (zl_ua hi3) (nm_r (nI_1 i) (ih (i + 1) (by omega) _ _ post hp))⟩⟩)
    rw [zl_ua hi3, nI_clamp hi3]
theorem zl_yd7 : ∀ d i : Nat, i + d = 16 → ∀ (nw fr : Nat → Int32) (post : Int32 → SY → Prop), post x2 (yo, yg, zl_cp kp i 16 nw, kp, zl_fi 0 i 16 fr) → wY_settle_7 post 0 x2 yo yg (d + 1) (nI i) nw kp fr := by
  intro d
  induction d with
  | zero =>
    intro i hi nw fr post hp
    obtain rfl : i = 16 := by omega
    rw [zl_fi_e, zl_cp_e] at hp
    exact br_t (nI_le (a := 16) (b := 16) (by decide) (by decide)) hp
  | succ d ih =>
    intro i hi nw fr post hp
    have hin : vp_in (nI i) 16 := vp_in_nI (by omega) (by decide)
    have hi3 : i < 2 ^ 31 := by omega
    rw [← zl_fi_s (by omega), ← zl_cp_s (by omega)] at hp
    refine br_f (nI_ge (a := i) (b := 16) (by omega) (by decide)) (br_t rfl ⟨hin, hin, nm_r (e' := zl_u nw i (kp i)) ?_ ⟨hin, nm_r (zl_ua hi3) (nm_r (nI_1 i) (ih (i + 1) (by omega) _ _ post hp))⟩⟩)
    rw [zl_ua hi3, nI_clamp hi3]
theorem zl_yk {post : Int32 → SY → Prop} (hz : zl_fi 0 0 16 fr = fun _ => 0) (hp : post (nI (zl_cn (zl_df fr) 16)) (yo, yg, nw, zl_cp nw 0 16 kp, fun _ => 0)) : wpY_settle post (yo, yg, nw, kp, fr) 1 := by
  rw [← hz] at hp
  exact zl_yf ⟨17, zl_yk7 (by decide) 16 0 rfl kp fr post hp⟩
theorem zl_yd {post : Int32 → SY → Prop} (hz : zl_fi 0 0 16 fr = fun _ => 0) (hp : post (nI (zl_cn (zl_df fr) 16)) (yo, yg, zl_cp kp 0 16 nw, kp, fun _ => 0)) : wpY_settle post (yo, yg, nw, kp, fr) 0 := by
  rw [← hz] at hp
  exact zl_yf ⟨17, zl_yd7 16 0 rfl nw fr post hp⟩
theorem zl_ys4 (ho : ¬ yo = 0) : ∀ d i : Nat, i + d = 16 → ∀ post : Int32 → Prop, post (zl_sm nw 16) → wY_sum_4 post yo yg nw kp fr (d + 1) (zl_sm nw i) (nI i) := by
  intro d
  induction d with
  | zero =>
    intro i hi post hp
    obtain rfl : i = 16 := by omega
    exact br_t (nI_le (a := 16) (b := 16) (by decide) (by decide)) (br_f ho hp)
  | succ d ih =>
    intro i hi post hp
    refine br_f (nI_ge (a := i) (b := 16) (by omega) (by decide)) ⟨vp_in_nI (by omega) (by decide), nm_r (e' := zl_sm nw (i + 1)) ?_ (nm_r (nI_1 i) (ih (i + 1) (by omega) post hp))⟩
    rw [nI_clamp (by omega)]
    rfl
theorem zl_ys0 : ∀ d i : Nat, i + d = 16 → ∀ (x : Int32) (post : Int32 → Prop), post 0 → wY_sum_4 post 0 yg nw kp fr (d + 1) x (nI i) := by
  intro d
  induction d with
  | zero =>
    intro i hi x post hp
    obtain rfl : i = 16 := by omega
    exact br_t (nI_le (a := 16) (b := 16) (by decide) (by decide)) (br_t rfl hp)
  | succ d ih =>
    intro i hi x post hp
    exact br_f (nI_ge (a := i) (b := 16) (by omega) (by decide)) ⟨vp_in_nI (by omega) (by decide), nm_e (nm_r (nI_1 i) (ih (i + 1) (by omega) _ post hp))⟩
theorem zl_yp {f : Nat → Nat} (h0 : ∀ b, b < 16 → nw b = kp b → f b = 0) (h1 : ∀ b, b < 16 → ¬ nw b = kp b → f b = 1) : ∀ d i : Nat, i + d = 16 → ∀ post : Int32 → Prop, post (nI (zl_cn f 16)) → wY_pending_13 post yo yg nw kp fr (d + 1) (nI (zl_cn f i)) (nI i) := by
  intro d
  induction d with
  | zero =>
    intro i hi post hp
    obtain rfl : i = 16 := by omega
    exact br_t (nI_le (a := 16) (b := 16) (by decide) (by decide)) hp
  | succ d ih =>
    intro i hi post hp
    have hi6 : i < 16 := by omega
    have hi3 : i < 2 ^ 31 := by omega
    have hin : vp_in (nI i) 16 := vp_in_nI (by omega) (by decide)
    have k := ih (i + 1) (by omega) post hp
    refine br_f (nI_ge (a := i) (b := 16) (by omega) (by decide)) ⟨hin, hin, ?_⟩
    rw [nI_clamp hi3]
    refine br_c (fun c => nm_r (nI_1 i) ?_) (fun c => nm_r (zl_c1 (h1 i hi6 c)) (nm_r (nI_1 i) k))
    rw [zl_cs (h0 i hi6 c)]
    exact k
theorem zl_hi {v1 : Int32} (h : nI 16 ≤ v1) : ¬ v1 < 0 ∧ ¬ v1 ≤ 15 := by
  have e16 : (nI 16).toInt = 16 := by decide
  have e15 : (15 : Int32).toInt = 15 := by decide
  have e0 : (0 : Int32).toInt = 0 := by decide
  rw [Int32.le_iff_toInt_le, e16] at h
  rw [Int32.le_iff_toInt_le, Int32.lt_iff_toInt_lt, e15, e0]
  omega
theorem zl_ib0 {post : Int32 → Prop} {v1 : Int32} (h : v1 < 0 ∨ nI 16 ≤ v1) (hp : post 0) : wpX_isBlock post v1 := by
  rcases h with h | h
  · exact br_t h hp
  · exact br_f (zl_hi h).1 (br_t h hp)
theorem zl_ib1 {post : Int32 → Prop} (hb : b < 16) (hp : post 1) : wpX_isBlock post (nI b) :=
  br_f (nI_pos (by omega)) (br_f (nI_ge (a := b) (b := 16) hb (by decide)) hp)
theorem zl_bd1 {post : Int32 → Prop} {v1 : Int32} (h : v1 < 0 ∨ nI 16 ≤ v1) (hp : post 1) : wpY_bad post (yo, yg, nw, kp, fr) v1 := by
  rcases h with h | h
  · exact br_t h hp
  · exact br_f (zl_hi h).1 (br_f (zl_hi h).2 hp)
theorem zl_bd0 {post : Int32 → Prop} (hb : b < 16) (hp : post 0) : wpY_bad post (yo, yg, nw, kp, fr) (nI b) :=
  br_f (nI_pos (by omega)) (br_t (nI_le (a := b) (b := 15) (by omega) (by decide)) hp)
theorem zl_yp31 {post : SY → Prop} {x : Int32} (hb : b < 16) (hp : post (yo, yg, zl_u nw b x, kp, zl_u fr b 1)) : wY_put_31 post (nI b) x yo yg nw kp fr := by
  have hin : vp_in (nI b) 16 := vp_in_nI hb (by decide)
  exact And.intro hin (nm_r (zl_ua (by omega)) (And.intro hin (nm_r (zl_ua (by omega)) hp)))
end
end
section
def zl_Q (m : Nat) (A : Option Nat) (g o : Nat) (B : Nat → Nat) (V : Nat → Int32) (G F : Nat → Nat) (O T : Nat → Option Nat) (ca di nw kp : Nat → Int32) : Prop :=
  zl_dev F O B G g o ∧ zl_tab F B G T 72 ∧ zl_vv V T kp ∧ zl_act O A ∧ zl_emp O ∧ g ≤ m ∧ o ≤ m ∧ (∀ j, 16 ≤ j → di j = 0) ∧ zl_cn (zl_df di) 16 ≤ 6 ∧ (∀ b, b < 16 → nw b = if di b = 0 then kp b else ca b)
def zl_R (m : Nat) (xg : Int32) (u : SX) (v : SY) : Prop := ∃ (A : Option Nat) (g o : Nat) (B : Nat → Nat) (V : Nat → Int32) (G F : Nat → Nat) (O T : Nat → Option Nat) (ca di nw kp : Nat → Int32),
  u = (1, xg, zl_oI A, nI g, nI o, zl_nA B, V, zl_nA G, zl_nA F, zl_oA O, zl_oA T, ca, di) ∧ v = (1, xg, nw, kp, di) ∧ zl_Q m A g o B V G F O T ca di nw kp
def zl_D (m : Nat) (u : SX) (v : SY) : Prop := ∃ (g o : Nat) (B : Nat → Nat) (V : Nat → Int32) (G F : Nat → Nat) (O T N : Nat → Option Nat) (ca nw kp : Nat → Int32),
  u = (0, 0, -1, nI g, nI o, zl_nA B, V, zl_nA G, zl_nA F, zl_oA O, zl_oA T, ca, fun _ => 0) ∧ v = (0, 0, nw, kp, fun _ => 0) ∧ zl_dev F O B G g o ∧ zl_tab F B G N 72 ∧ zl_vv V N kp ∧ zl_emp O ∧ g ≤ m ∧ o ≤ m ∧ (∀ b, b < 16 → T b = none) ∧ (∀ b, b < 16 → nw b = kp b)
theorem zl_z16 {di : Nat → Int32} (hdi : ∀ j, 16 ≤ j → di j = 0) : zl_fi 0 0 16 di = fun _ => 0 := by
  funext j
  by_cases k : j < 16
  · exact zl_fi_lt k
  · rw [zl_fi_ge (by omega)]
    exact hdi j (by omega)
theorem zl_h10 : ¬ (1 : Int32) = 0 := by decide
theorem zl_cnu {di : Nat → Int32} {b : Nat} {x : Int32} (n : Nat) : zl_cn (zl_df (zl_u di b x)) n ≤ zl_cn (zl_df di) n + (if b < n then 1 else 0) := by
  induction n with
  | zero => exact Nat.zero_le _
  | succ n ih =>
    have e1 : zl_cn (zl_df (zl_u di b x)) (n + 1) = zl_cn (zl_df (zl_u di b x)) n + zl_df (zl_u di b x) n := rfl
    have e2 : zl_cn (zl_df di) (n + 1) = zl_cn (zl_df di) n + zl_df di n := rfl
    by_cases k : n = b
    · have h1 := zl_df1 (zl_u di b x) n
      rw [if_neg (by omega)] at ih
      rw [if_pos (by omega)]
      omega
    · have h1 : zl_df (zl_u di b x) n = zl_df di n := congrArg zl_d (zl_un k)
      by_cases c : b < n
      · rw [if_pos c] at ih
        rw [if_pos (by omega)]
        omega
      · rw [if_neg c] at ih
        rw [if_neg (by omega)]
        omega
section
variable {xr xg xa xn xo x y : Int32} {rb rv rg fl op tb ca di nw kp : Nat → Int32} {F B G : Nat → Nat} {V : Nat → Int32} {O T : Nat → Option Nat} {A : Option Nat} {g o b m m' : Nat} {u : SX} {v : SY}
theorem zl_mkR (h : zl_Q m A g o B V G F O T ca di nw kp) (hm : m ≤ m') : zl_R m' xg (1, xg, zl_oI A, nI g, nI o, zl_nA B, V, zl_nA G, zl_nA F, zl_oA O, zl_oA T, ca, di) (1, xg, nw, kp, di) := by
  obtain ⟨q1, q2, q3, q4, q5, q6, q7, q8⟩ := h
  exact ⟨A, g, o, B, V, G, F, O, T, ca, di, nw, kp, rfl, rfl, q1, q2, q3, q4, q5, by omega, by omega, q8⟩
theorem zl_Rm (h : zl_R m xg u v) (hm : m ≤ m') : zl_R m' xg u v := by
  obtain ⟨A, g, o, B, V, G, F, O, T, ca, di, nw, kp, rfl, rfl, q⟩ := h
  exact zl_mkR q hm
theorem zl_mkD {N : Nat → Option Nat} (h1 : zl_dev F O B G g o) (h2 : zl_tab F B G N 72) (h3 : zl_vv V N kp) (h4 : zl_emp O) (h5 : g ≤ m) (h6 : o ≤ m) (h7 : ∀ b, b < 16 → nw b = kp b) :
    zl_D m (0, 0, -1, nI g, nI o, zl_nA B, V, zl_nA G, zl_nA F, zl_oA O, zl_oA (zl_fi none 0 16 T), ca, fun _ => 0) (0, 0, nw, kp, fun _ => 0) :=
  ⟨g, o, B, V, G, F, O, zl_fi none 0 16 T, N, ca, nw, kp, rfl, rfl, h1, h2, h3, h4, h5, h6, fun b hb => zl_fi_lt hb, h7⟩
theorem zl_Dm (h : zl_D m u v) (hm : m ≤ m') : zl_D m' u v := by
  obtain ⟨g, o, B, V, G, F, O, T, N, ca, nw, kp, rfl, rfl, q1, q2, q3, q4, q5, q6, q7⟩ := h
  exact ⟨g, o, B, V, G, F, O, T, N, ca, nw, kp, rfl, rfl, q1, q2, q3, q4, by omega, by omega, q7⟩
theorem zl_fz {post : SX → Prop} (hz : zl_fi 0 0 16 di = fun _ => 0) (hp : post (0, 0, -1, xn, xo, rb, rv, rg, fl, op, zl_oA (zl_fi none 0 16 T), ca, fun _ => 0)) : wpX_fall post (xr, xg, xa, xn, xo, rb, rv, rg, fl, op, zl_oA T, ca, di) := by
  rw [← hz] at hp
  exact zl_fa hp
theorem zl_Qset (h : zl_Q m A g o B V G F O T ca di nw kp) (hb : b < 16) (hc : ¬ di b = 0 ∨ zl_cn (zl_df di) 16 ≤ 5) : zl_Q m A g o B V G F O T (zl_u ca b y) (zl_u di b 1) (zl_u nw b y) kp := by
  obtain ⟨q1, q2, q3, q4, q5, q6, q7, q8, q9, q10⟩ := h
  refine ⟨q1, q2, q3, q4, q5, q6, q7, fun j hj => ?_, ?_, fun c hc6 => ?_⟩
  · rw [zl_un (by omega)]
    exact q8 j hj
  · rcases hc with hc | hc
    · rw [zl_cn_c (e := zl_df di) 16 (fun j _ => ?_)]
      · exact q9
      · by_cases k : j = b
        · rw [k, zl_dfn hc]
          exact zl_dfn (by rw [zl_us]; exact zl_h10)
        · exact congrArg zl_d (zl_un k)
    · have := zl_cnu (di := di) (b := b) (x := 1) 16
      rw [if_pos hb] at this
      omega
  · by_cases k : c = b
    · subst k
      rw [zl_us, zl_us, zl_us, if_neg zl_h10]
    · rw [zl_un k, zl_un k, zl_un k]
      exact q10 c hc6
theorem zl_Qfl (h : zl_Q m A g o B V G F O T ca di nw kp) (hm : m + 1 < 2 ^ 31) :
    ∃ (A' : Option Nat) (g' o' : Nat) (B' : Nat → Nat) (V' : Nat → Int32) (G' F' : Nat → Nat) (O' T' : Nat → Option Nat), zl_Q (m + 2) A' g' o' B' V' G' F' O' T' ca (fun _ => 0) nw (zl_cp nw 0 16 kp) ∧
      ∀ post : SX → Prop, post (xr, xg, zl_oI A', nI g', nI o', zl_nA B', V', zl_nA G', zl_nA F', zl_oA O', zl_oA T', ca, fun _ => 0) → wpX_flush post (xr, xg, zl_oI A, nI g, nI o, zl_nA B, V, zl_nA G, zl_nA F, zl_oA O, zl_oA T, ca, di) 3 := by
  obtain ⟨q1, q2, q3, q4, q5, q6, q7, q8, q9, q10⟩ := h
  obtain ⟨A', g', o', B', V', G', F', O', T', k1, k2, k3, k4, k5, k6, k7, k8⟩ := zl_fl3 (xr := xr) (xg := xg) (ca := ca) q1 q2 q3 q4 q5 (by omega) q9 q8
  refine ⟨A', g', o', B', V', G', F', O', T', ⟨k1, k2, fun b hb => ?_, k4, k5, by omega, by omega, fun _ _ => rfl, ?_, fun b hb => ?_⟩, k8⟩
  · rw [zl_cp_lt hb, q10 b hb]
    exact k3 b hb
  · rw [zl_cn_z 16 (fun j _ => zl_dfz rfl)]
    omega
  · rw [if_pos rfl, zl_cp_lt hb]
theorem zl_w52 {post : Int32 → SX → Prop} (hb : b < 16) (hp : post 0 (xr, xg, xa, xn, xo, rb, rv, rg, fl, op, tb, zl_u ca b y, zl_u di b 1)) : wX_write_52 post (nI b) y xr xg xa xn xo rb rv rg fl op tb ca di := by
  have hin : vp_in (nI b) 16 := vp_in_nI hb (by decide)
  exact And.intro hin (nm_r (zl_ua (by omega)) (And.intro hin (nm_r (zl_ua (by omega)) hp)))
theorem zl_put (h : zl_R m 0 u v) (hm : m + 1 < 2 ^ 31) (hb : b < 16) (hx : x = nI b) : ∃ (u' : SX) (v' : SY), zl_R (m + 2) 0 u' v' ∧ (∀ post : Int32 → SX → Prop, post 0 u' → wpX_write post u x y) ∧ (∀ post : SY → Prop, post v' → wpY_put post v x y) := by
  subst hx
  obtain ⟨A, g, o, B, V, G, F, O, T, ca, di, nw, kp, rfl, rfl, q⟩ := h
  have hin : vp_in (nI b) 16 := vp_in_nI hb (by decide)
  have hb3 : b < 2 ^ 31 := by omega
  obtain ⟨q1, q2, q3, q4, q5, q6, q7, q8, q9, q10⟩ := id q
  by_cases e : di b = 0
  · have e' : di (nI b).toNatClampNeg = 0 := by rw [nI_clamp hb3]; exact e
    by_cases c : zl_cn (zl_df di) 16 = 6
    · obtain ⟨A', g', o', B', V', G', F', O', T', k1, k2⟩ := zl_Qfl (xr := 1) (xg := 0) q hm
      refine ⟨_, _, zl_mkR (zl_Qset (b := b) (y := y) k1 hb (Or.inr ?_)) (Nat.le_refl _), fun post hp => br_f zl_h10 (zl_ib1 hb (br_f zl_h10 ⟨hin, br_t e' (zl_dc (br_t (by rw [c]; rfl) (br_t rfl (k2 _ (zl_w52 hb hp)))))⟩)),
        fun post hp => br_t rfl (zl_yf (br_t (by rw [c]; rfl) ⟨hin, br_t e' (zl_yk (zl_z16 q8) (zl_yp31 hb hp))⟩))⟩
      rw [zl_cn_z 16 (fun j _ => zl_dfz rfl)]
      omega
    · have c' : ¬ nI (zl_cn (zl_df di) 16) = 6 := fun k => c ((nI_eq (b := 6) (by omega) (by decide)).mp k)
      exact ⟨_, _, zl_mkR (zl_Qset (b := b) (y := y) q hb (Or.inr (by omega))) (by omega), fun post hp => br_f zl_h10 (zl_ib1 hb (br_f zl_h10 ⟨hin, br_t e' (zl_dc (br_f c' (zl_w52 hb hp)))⟩)),
        fun post hp => br_t rfl (zl_yf (br_f c' (zl_yp31 hb hp)))⟩
  · have e' : ¬ di (nI b).toNatClampNeg = 0 := by rw [nI_clamp hb3]; exact e
    exact ⟨_, _, zl_mkR (zl_Qset (b := b) (y := y) q hb (Or.inl e)) (by omega), fun post hp => br_f zl_h10 (zl_ib1 hb (br_f zl_h10 ⟨hin, br_f e' (zl_w52 hb hp)⟩)),
        fun post hp => br_t rfl (zl_yf (br_c (fun _ => ⟨hin, br_f e' (zl_yp31 hb hp)⟩) (fun _ => zl_yp31 hb hp)))⟩
theorem zl_wr (h : zl_R m xg u v) (hm : m + 1 < 2 ^ 31) (hb : b < 16) : ∃ (r : Int32) (u' : SX) (v' : SY), zl_R (m + 2) xg u' v' ∧ (∀ post : Int32 → SX → Prop, post r u' → wpX_write post u (nI b) y) ∧ (∀ post : Int32 → SY → Prop, post r v' → wpY_write post v (nI b) y) := by
  by_cases hxg : xg = 0
  · subst hxg
    obtain ⟨u', v', k1, k2, k3⟩ := zl_put (y := y) h hm hb rfl
    refine ⟨0, u', v', k1, k2, ?_⟩
    obtain ⟨A, g, o, B, V, G, F, O, T, ca, di, nw, kp, rfl, rfl, q⟩ := h
    obtain ⟨A', g', o', B', V', G', F', O', T', ca', di', nw', kp', rfl, rfl, q'⟩ := k1
    exact fun post hp => br_f zl_h10 (zl_bd0 hb (br_t rfl (br_t rfl (k3 _ hp))))
  · obtain ⟨A, g, o, B, V, G, F, O, T, ca, di, nw, kp, rfl, rfl, q⟩ := h
    have hin : vp_in (nI b) 16 := vp_in_nI hb (by decide)
    have hb3 : b < 2 ^ 31 := by omega
    obtain ⟨q1, q2, q3, q4, q5, q6, q7, q8, q9, q10⟩ := id q
    by_cases e : di b = 0
    · have e' : di (nI b).toNatClampNeg = 0 := by rw [nI_clamp hb3]; exact e
      by_cases c : zl_cn (zl_df di) 16 = 6
      · exact ⟨-3, _, _, zl_mkR q (by omega), fun post hp => br_f zl_h10 (zl_ib1 hb (br_f zl_h10 ⟨hin, br_t e' (zl_dc (br_t (by rw [c]; rfl) (br_f hxg hp)))⟩)),
          fun post hp => br_f zl_h10 (zl_bd0 hb (br_t rfl (br_f hxg (zl_yf (br_t (by rw [c]; rfl) ⟨hin, br_t e' hp⟩)))))⟩
      · have c' : ¬ nI (zl_cn (zl_df di) 16) = 6 := fun k => c ((nI_eq (b := 6) (by omega) (by decide)).mp k)
        exact ⟨0, _, _, zl_mkR (zl_Qset (b := b) (y := y) q hb (Or.inr (by omega))) (by omega), fun post hp => br_f zl_h10 (zl_ib1 hb (br_f zl_h10 ⟨hin, br_t e' (zl_dc (br_f c' (zl_w52 hb hp)))⟩)),
          fun post hp => br_f zl_h10 (zl_bd0 hb (br_t rfl (br_f hxg (zl_yf (br_f c' (br_f hxg (zl_yp31 hb hp)))))))⟩
    · have e' : ¬ di (nI b).toNatClampNeg = 0 := by rw [nI_clamp hb3]; exact e
      refine ⟨0, _, _, zl_mkR (zl_Qset (b := b) (y := y) q hb (Or.inl e)) (by omega), fun post hp => br_f zl_h10 (zl_ib1 hb (br_f zl_h10 ⟨hin, br_f e' (zl_w52 hb hp)⟩)), fun post hp => ?_⟩
      have W : wY_write_48 post (nI b) y 1 xg nw kp di := br_f hxg (zl_yp31 hb hp)
      exact br_f zl_h10 (zl_bd0 hb (br_t rfl (br_f hxg (zl_yf (br_c (fun _ => ⟨hin, br_f e' W⟩) (fun _ => W))))))
theorem zl_fil {c f : Nat} {x3 x4 : Int32} (hc : f + c ≤ 16) : ∀ d i : Nat, i + d = c → ∀ (m : Nat) (u : SX) (v : SY), zl_R m 0 u v → m + 2 * d + 1 < 2 ^ 31 → ∃ (u' : SX) (v' : SY), zl_R (m + 2 * d) 0 u' v' ∧
    (∀ post : Int32 → SX → Prop, post 0 u' → wX_fill_48 post (nI f) (nI c) x3 x4 (d + 1) (nI i) u.1 u.2.1 u.2.2.1 u.2.2.2.1 u.2.2.2.2.1 u.2.2.2.2.2.1 u.2.2.2.2.2.2.1 u.2.2.2.2.2.2.2.1 u.2.2.2.2.2.2.2.2.1 u.2.2.2.2.2.2.2.2.2.1 u.2.2.2.2.2.2.2.2.2.2.1 u.2.2.2.2.2.2.2.2.2.2.2.1 u.2.2.2.2.2.2.2.2.2.2.2.2) ∧ (∀ post : Int32 → SY → Prop, post 0 v' → wY_fill_48 post (nI f) (nI c) x3 x4 (d + 1) (nI i) v.1 v.2.1 v.2.2.1 v.2.2.2.1 v.2.2.2.2) := by
  intro d
  induction d with
  | zero =>
    intro i hi m u v h hm
    obtain rfl : i = c := by omega
    have hl : nI i ≤ nI i := nI_le (Nat.le_refl _) (by omega)
    exact ⟨u, v, h, fun post hp => br_t hl hp, fun post hp => br_t hl hp⟩
  | succ d ih =>
    intro i hi m u v h hm
    have hge : ¬ nI c ≤ nI i := nI_ge (by omega) (by omega)
    obtain ⟨u1, v1, k1, k2, k3⟩ := zl_put (y := x3 + nI i * x4) h (by omega) (b := f + i) (by omega) (nI_add f i)
    obtain ⟨u2, v2, n1, n2, n3⟩ := ih (i + 1) (by omega) (m + 2) u1 v1 k1 (by omega)
    rw [(by omega : m + 2 + 2 * d = m + 2 * (d + 1))] at n1
    refine ⟨u2, v2, n1, ?_, ?_⟩
    · obtain ⟨A', g', o', B', V', G', F', O', T', ca', di', nw', kp', rfl, rfl, q'⟩ := k1
      exact fun post hp => br_f hge (k2 _ (nm_r (nI_1 i) (n2 post hp)))
    · obtain ⟨A', g', o', B', V', G', F', O', T', ca', di', nw', kp', rfl, rfl, q'⟩ := k1
      exact fun post hp => br_f hge (k3 _ (nm_r (nI_1 i) (n3 post hp)))
theorem zl_in96 : ∀ d i : Nat, i + d = 16 → ∀ (T : Nat → Option Nat) (post : SX → Prop), post (xr, xg, -1, xn, xo, rb, rv, rg, fl, op, zl_oA (zl_fi none i 16 T), ca, di) → wX_init_96 post xr xg xa xn xo (d + 1) (nI i) rb rv rg fl op (zl_oA T) ca di := by
  intro d
  induction d with
  | zero =>
    intro i hi T post hp
    obtain rfl : i = 16 := by omega
    rw [zl_fi_e] at hp
    exact br_t (nI_le (a := 16) (b := 16) (by decide) (by decide)) hp
  | succ d ih =>
    intro i hi T post hp
    rw [← zl_fi_s (by omega)] at hp
    exact br_f (nI_ge (a := i) (b := 16) (by omega) (by decide)) ⟨vp_in_nI (by omega) (by decide), nm_r (zl_uo none rfl (by omega)) (nm_r (nI_1 i) (ih (i + 1) (by omega) _ post hp))⟩
theorem zl_in75 : ∀ d i : Nat, i + d = 6 → ∀ (O : Nat → Option Nat) (post : SX → Prop), (∃ n, wX_init_96 post xr xg xa xn xo n 0 rb rv rg fl (zl_oA (zl_fi none i 6 O)) tb ca di) → wX_init_75 post xr xg xa xn xo (d + 1) (nI i) rb rv rg fl (zl_oA O) tb ca di := by
  intro d
  induction d with
  | zero =>
    intro i hi O post hp
    obtain rfl : i = 6 := by omega
    rw [zl_fi_e] at hp
    exact br_t (nI_le (a := 6) (b := 6) (by decide) (by decide)) hp
  | succ d ih =>
    intro i hi O post hp
    rw [← zl_fi_s (by omega)] at hp
    exact br_f (nI_ge (a := i) (b := 6) (by omega) (by decide)) ⟨vp_in_nI (by omega) (by decide), nm_r (zl_uo none rfl (by omega)) (nm_r (nI_1 i) (ih (i + 1) (by omega) _ post hp))⟩
end
end
section
def i_Rel (k : Nat) (u : SX) (v : SY) : Prop := (∃ xg : Int32, zl_R (8 * k) xg u v) ∨ zl_D (8 * k) u v
theorem i_up {k : Nat} {u : SX} {v : SY} (h : i_Rel k u v) : i_Rel (k + 5) u v := by
  rcases h with ⟨xg, h⟩ | h
  · exact Or.inl ⟨xg, zl_Rm h (by omega)⟩
  · exact Or.inr (zl_Dm h (by omega))
theorem i_vc0 : wpX_init (fun u => wpY_init (fun v => i_Rel 0 u v)) := by
  refine ⟨7, zl_in75 (rb := zl_nA (fun _ => 0)) (rv := fun _ => 0) (rg := zl_nA (fun _ => 0)) (fl := zl_nA (fun _ => 0)) (tb := zl_oA (fun _ => some 0)) (ca := fun _ => 0) (di := fun _ => 0) 6 0 rfl (fun _ => some 0) _
    ⟨17, zl_in96 16 0 rfl (fun _ => some 0) _ ?_⟩⟩
  refine Or.inl ⟨0, none, 0, 0, fun _ => 0, fun _ => 0, fun _ => 0, fun _ => 0, zl_fi none 0 6 (fun _ => some 0), zl_fi none 0 16 (fun _ => some 0), fun _ => 0, fun _ => 0, fun _ => 0, fun _ => 0, rfl, rfl,
    ⟨fun _ _ => Nat.zero_le _, fun _ _ _ => rfl, fun p hp => absurd hp.2 (Nat.not_lt_zero _), fun p q hp => absurd hp.2 (Nat.not_lt_zero _), fun z n hz e => ?_⟩, fun b hb => ⟨fun _ q _ hq => absurd hq.2 (Nat.not_lt_zero _), fun p e => ?_⟩,
    fun b hb => ?_, fun a e => (nomatch e), ⟨0, by omega, rfl⟩, Nat.zero_le _, Nat.zero_le _, fun _ _ => rfl, ?_, fun b hb => ?_⟩
  · rw [zl_fi_lt hz] at e
    exact nomatch e
  · rw [zl_fi_lt hb] at e
    exact nomatch e
  · rw [zl_fi_lt hb]
    rfl
  · rw [zl_cn_z 16 (fun j _ => zl_dfz rfl)]
    omega
  · rw [if_pos rfl]
theorem i_vc_up {k : Nat} {u : SX} {v : SY} (I : i_Rel k u v) (hk : k + 5 ≤ 2560) : wpX_up (fun r => wpY_up (fun r' => r' = r ∧ i_Rel (k + 5) u v) v) u := by
  have I5 := i_up I
  rcases I with ⟨xg, A, g, o, B, V, G, F, O, T, ca, di, nw, kp, rfl, rfl, q⟩ | ⟨g, o, B, V, G, F, O, T, N, ca, nw, kp, rfl, rfl, q⟩
  · exact br_f zl_h10 (br_f zl_h10 ⟨rfl, I5⟩)
  · exact br_t rfl (br_t rfl ⟨rfl, I5⟩)
theorem i_vc_read {k : Nat} {u : SX} {v : SY} (I : i_Rel k u v) (hk : k + 5 ≤ 2560) (v1 : Int32) : wpX_read (fun r => wpY_read (fun r' => r' = r ∧ i_Rel (k + 5) u v) v v1) u v1 := by
  have I5 := i_up I
  rcases I with ⟨xg, A, g, o, B, V, G, F, O, T, ca, di, nw, kp, rfl, rfl, q⟩ | ⟨g, o, B, V, G, F, O, T, N, ca, nw, kp, rfl, rfl, q⟩
  · rcases pk_ix v1 (n := 16) (by decide) with h | h | ⟨b, hb, rfl⟩
    · exact br_f zl_h10 (zl_ib0 (Or.inl h) (br_t rfl (br_f zl_h10 (zl_bd1 (Or.inl h) (br_f zl_h10 ⟨rfl, I5⟩)))))
    · exact br_f zl_h10 (zl_ib0 (Or.inr h) (br_t rfl (br_f zl_h10 (zl_bd1 (Or.inr h) (br_f zl_h10 ⟨rfl, I5⟩)))))
    · obtain ⟨q1, q2, q3, q4, q5, q6, q7, q8, q9, q10⟩ := q
      have e : nw (nI b).toNatClampNeg = if di b = 0 then zl_vl V (T b) else ca b := by
        rw [nI_clamp (by omega), q10 b hb, q3 b hb]
      exact br_f zl_h10 (zl_ib1 hb (br_f zl_h10 (zl_cu hb (zl_t72 q2) (br_f zl_h10 (zl_bd0 hb (br_t rfl ⟨vp_in_nI hb (by decide), e, I5⟩))))))
  · exact br_t rfl (br_t rfl ⟨rfl, I5⟩)
theorem i_vc_write {k : Nat} {u : SX} {v : SY} (I : i_Rel k u v) (hk : k + 5 ≤ 2560) (v1 : Int32) (v2 : Int32) : wpX_write (fun r u' => wpY_write (fun r' v' => r' = r ∧ i_Rel (k + 5) u' v') v v1 v2) u v1 v2 := by
  have I5 := i_up I
  rcases I with ⟨xg, hR⟩ | ⟨g, o, B, V, G, F, O, T, N, ca, nw, kp, rfl, rfl, q⟩
  · rcases pk_ix v1 (n := 16) (by decide) with h | h | ⟨b, hb, rfl⟩
    · obtain ⟨A, g, o, B, V, G, F, O, T, ca, di, nw, kp, rfl, rfl, q⟩ := hR
      exact br_f zl_h10 (zl_ib0 (Or.inl h) (br_t rfl (br_f zl_h10 (zl_bd1 (Or.inl h) (br_f zl_h10 ⟨rfl, I5⟩)))))
    · obtain ⟨A, g, o, B, V, G, F, O, T, ca, di, nw, kp, rfl, rfl, q⟩ := hR
      exact br_f zl_h10 (zl_ib0 (Or.inr h) (br_t rfl (br_f zl_h10 (zl_bd1 (Or.inr h) (br_f zl_h10 ⟨rfl, I5⟩)))))
    · obtain ⟨r, u', v', k1, k2, k3⟩ := zl_wr (y := v2) hR (by omega) hb
      exact k2 _ (k3 _ ⟨rfl, Or.inl ⟨xg, zl_Rm k1 (by omega)⟩⟩)
  · exact br_t rfl (br_t rfl ⟨rfl, I5⟩)
theorem i_vc_fill {k : Nat} {u : SX} {v : SY} (I : i_Rel k u v) (hk : k + 5 ≤ 2560) (v1 : Int32) (v2 : Int32) (v3 : Int32) (v4 : Int32) : wpX_fill (fun r u' => wpY_fill (fun r' v' => r' = r ∧ i_Rel (k + 5) u' v') v v1 v2 v3 v4) u v1 v2 v3 v4 := by
  have I5 := i_up I
  rcases I with ⟨xg, hR⟩ | ⟨g, o, B, V, G, F, O, T, N, ca, nw, kp, rfl, rfl, q⟩
  · by_cases h1 : v2 < 1
    · obtain ⟨A, g, o, B, V, G, F, O, T, ca, di, nw, kp, rfl, rfl, q⟩ := hR
      exact br_f zl_h10 (br_t h1 (br_f zl_h10 (br_t h1 ⟨rfl, I5⟩)))
    · by_cases h2 : 16 < v2
      · obtain ⟨A, g, o, B, V, G, F, O, T, ca, di, nw, kp, rfl, rfl, q⟩ := hR
        exact br_f zl_h10 (br_f h1 (br_t h2 (br_f zl_h10 (br_f h1 (br_t h2 ⟨rfl, I5⟩)))))
      · by_cases h3 : v1 < 0
        · obtain ⟨A, g, o, B, V, G, F, O, T, ca, di, nw, kp, rfl, rfl, q⟩ := hR
          exact br_f zl_h10 (br_f h1 (br_f h2 (br_t h3 (br_f zl_h10 (br_f h1 (br_f h2 (br_t h3 ⟨rfl, I5⟩)))))))
        · by_cases h4 : v1 ≤ 16 - v2
          · by_cases h5 : xg = 0
            · subst h5
              have hc : ∃ f c : Nat, v1 = nI f ∧ v2 = nI c ∧ f + c ≤ 16 := by
                have e1 : (1 : Int32).toInt = 1 := by decide
                have e16 : (16 : Int32).toInt = 16 := by decide
                have h1' : ¬ v2 < 0 := by
                  intro z
                  rw [Int32.lt_iff_toInt_lt] at z h1
                  have e0 : (0 : Int32).toInt = 0 := by decide
                  omega
                obtain ⟨c, hc, rfl⟩ := nI_of h1'
                obtain ⟨f, hf, rfl⟩ := nI_of h3
                have hc16 : c ≤ 16 := by
                  by_cases z : c ≤ 16
                  · exact z
                  · exact absurd (nI_lt (a := 16) (b := c) (by omega) hc) h2
                have e : (16 : Int32) - nI c = nI (16 - c) := pk_sub (a := 16) hc16
                rw [e, nI_leI hf (by omega)] at h4
                exact ⟨f, c, rfl, rfl, by omega⟩
              obtain ⟨f, c, rfl, rfl, hfc⟩ := hc
              obtain ⟨u', v', k1, k2, k3⟩ := zl_fil (x3 := v3) (x4 := v4) hfc c 0 (by omega) (8 * k) u v hR (by omega)
              obtain ⟨A, g, o, B, V, G, F, O, T, ca, di, nw, kp, rfl, rfl, q⟩ := hR
              exact br_f zl_h10 (br_f h1 (br_f h2 (br_f h3 (br_t h4 (br_t rfl ⟨c + 1, k2 _ (br_f zl_h10 (br_f h1 (br_f h2 (br_f h3 (br_t h4 (br_t rfl ⟨c + 1, k3 _ ⟨rfl, Or.inl ⟨0, zl_Rm k1 (by omega)⟩⟩⟩))))))⟩)))))
            · obtain ⟨A, g, o, B, V, G, F, O, T, ca, di, nw, kp, rfl, rfl, q⟩ := hR
              exact br_f zl_h10 (br_f h1 (br_f h2 (br_f h3 (br_t h4 (br_f h5 (br_f zl_h10 (br_f h1 (br_f h2 (br_f h3 (br_t h4 (br_f h5 ⟨rfl, I5⟩)))))))))))
          · obtain ⟨A, g, o, B, V, G, F, O, T, ca, di, nw, kp, rfl, rfl, q⟩ := hR
            exact br_f zl_h10 (br_f h1 (br_f h2 (br_f h3 (br_f h4 (br_f zl_h10 (br_f h1 (br_f h2 (br_f h3 (br_f h4 ⟨rfl, I5⟩)))))))))
  · exact br_t rfl (br_t rfl ⟨rfl, I5⟩)
theorem i_vc_sync {k : Nat} {u : SX} {v : SY} (I : i_Rel k u v) (hk : k + 5 ≤ 2560) : wpX_sync (fun r u' => wpY_sync (fun r' v' => r' = r ∧ i_Rel (k + 5) u' v') v) u := by
  have I5 := i_up I
  rcases I with ⟨xg, A, g, o, B, V, G, F, O, T, ca, di, nw, kp, rfl, rfl, q⟩ | ⟨g, o, B, V, G, F, O, T, N, ca, nw, kp, rfl, rfl, q⟩
  · by_cases h5 : xg = 0
    · have hz := zl_z16 q.2.2.2.2.2.2.2.1
      obtain ⟨A', g', o', B', V', G', F', O', T', k1, k2⟩ := zl_Qfl (xr := 1) (xg := xg) q (by omega)
      exact br_f zl_h10 (br_t h5 (zl_dc (k2 _ (br_f zl_h10 (br_t h5 (zl_yk hz ⟨rfl, Or.inl ⟨xg, zl_mkR k1 (by omega)⟩⟩))))))
    · exact br_f zl_h10 (br_f h5 (br_f zl_h10 (br_f h5 ⟨rfl, I5⟩)))
  · exact br_t rfl (br_t rfl ⟨rfl, I5⟩)
theorem i_vc_begin {k : Nat} {u : SX} {v : SY} (I : i_Rel k u v) (hk : k + 5 ≤ 2560) : wpX_begin (fun r u' => wpY_begin (fun r' v' => r' = r ∧ i_Rel (k + 5) u' v') v) u := by
  have I5 := i_up I
  rcases I with ⟨xg, A, g, o, B, V, G, F, O, T, ca, di, nw, kp, rfl, rfl, q⟩ | ⟨g, o, B, V, G, F, O, T, N, ca, nw, kp, rfl, rfl, q⟩
  · by_cases h5 : xg = 0
    · have hz := zl_z16 q.2.2.2.2.2.2.2.1
      obtain ⟨A', g', o', B', V', G', F', O', T', k1, k2⟩ := zl_Qfl (xr := 1) (xg := xg) q (by omega)
      exact br_f zl_h10 (br_t h5 (k2 _ (br_f zl_h10 (br_t h5 (zl_yk hz ⟨rfl, Or.inl ⟨1, zl_mkR k1 (by omega)⟩⟩)))))
    · exact br_f zl_h10 (br_f h5 (br_f zl_h10 (br_f h5 ⟨rfl, I5⟩)))
  · exact br_t rfl (br_t rfl ⟨rfl, I5⟩)
theorem i_vc_commit {k : Nat} {u : SX} {v : SY} (I : i_Rel k u v) (hk : k + 5 ≤ 2560) : wpX_commit (fun r u' => wpY_commit (fun r' v' => r' = r ∧ i_Rel (k + 5) u' v') v) u := by
  have I5 := i_up I
  rcases I with ⟨xg, A, g, o, B, V, G, F, O, T, ca, di, nw, kp, rfl, rfl, q⟩ | ⟨g, o, B, V, G, F, O, T, N, ca, nw, kp, rfl, rfl, q⟩
  · by_cases h5 : xg = 0
    · exact br_f zl_h10 (br_t h5 (br_f zl_h10 (br_t h5 ⟨rfl, I5⟩)))
    · have hz := zl_z16 q.2.2.2.2.2.2.2.1
      obtain ⟨A', g', o', B', V', G', F', O', T', k1, k2⟩ := zl_Qfl (xr := 1) (xg := 0) q (by omega)
      exact br_f zl_h10 (br_f h5 (zl_dc (k2 _ (br_f zl_h10 (br_f h5 (zl_yk hz ⟨rfl, Or.inl ⟨0, zl_mkR k1 (by omega)⟩⟩))))))
  · exact br_t rfl (br_t rfl ⟨rfl, I5⟩)
theorem i_vc_abort {k : Nat} {u : SX} {v : SY} (I : i_Rel k u v) (hk : k + 5 ≤ 2560) : wpX_abort (fun r u' => wpY_abort (fun r' v' => r' = r ∧ i_Rel (k + 5) u' v') v) u := by
  have I5 := i_up I
  rcases I with ⟨xg, A, g, o, B, V, G, F, O, T, ca, di, nw, kp, rfl, rfl, q⟩ | ⟨g, o, B, V, G, F, O, T, N, ca, nw, kp, rfl, rfl, q⟩
  · by_cases h5 : xg = 0
    · exact br_f zl_h10 (br_t h5 (br_f zl_h10 (br_t h5 ⟨rfl, I5⟩)))
    · obtain ⟨q1, q2, q3, q4, q5, q6, q7, q8, q9, q10⟩ := q
      have hz := zl_z16 q8
      have k1 : zl_Q (8 * k) A g o B V G F O T ca (fun _ => 0) (zl_cp kp 0 16 nw) kp := by
        refine ⟨q1, q2, q3, q4, q5, q6, q7, fun _ _ => rfl, ?_, fun b hb => ?_⟩
        · rw [zl_cn_z 16 (fun j _ => zl_dfz rfl)]
          omega
        · rw [if_pos rfl, zl_cp_lt hb]
      refine br_f zl_h10 (br_f h5 (zl_dc (zl_dr ?_)))
      rw [hz]
      exact br_f zl_h10 (br_f h5 (zl_yd hz ⟨rfl, Or.inl ⟨0, zl_mkR k1 (by omega)⟩⟩))
  · exact br_t rfl (br_t rfl ⟨rfl, I5⟩)
theorem i_vc_crash {k : Nat} {u : SX} {v : SY} (I : i_Rel k u v) (hk : k + 5 ≤ 2560) : wpX_crash (fun r u' => wpY_crash (fun r' v' => r' = r ∧ i_Rel (k + 5) u' v') v) u := by
  have I5 := i_up I
  rcases I with ⟨xg, A, g, o, B, V, G, F, O, T, ca, di, nw, kp, rfl, rfl, q⟩ | ⟨g, o, B, V, G, F, O, T, N, ca, nw, kp, rfl, rfl, q⟩
  · obtain ⟨q1, q2, q3, q4, q5, q6, q7, q8, q9, q10⟩ := q
    have hz := zl_z16 q8
    exact br_f zl_h10 (zl_dc (zl_fz hz (br_f zl_h10 (zl_yd hz ⟨rfl, Or.inr (zl_mkD q1 q2 q3 q5 (by omega) (by omega) (fun b hb => zl_cp_lt hb))⟩))))
  · exact br_t rfl (br_t rfl ⟨rfl, I5⟩)
theorem i_vc_crashIn {k : Nat} {u : SX} {v : SY} (I : i_Rel k u v) (hk : k + 5 ≤ 2560) (v1 : Int32) : wpX_crashIn (fun r u' => wpY_crashIn (fun r' v' => r' = r ∧ i_Rel (k + 5) u' v') v v1) u v1 := by
  have I5 := i_up I
  rcases I with ⟨xg, A, g, o, B, V, G, F, O, T, ca, di, nw, kp, rfl, rfl, q⟩ | ⟨g, o, B, V, G, F, O, T, N, ca, nw, kp, rfl, rfl, q⟩
  · by_cases h0 : v1 < 0
    · exact br_f zl_h10 (br_t h0 (br_f zl_h10 (br_t h0 ⟨rfl, I5⟩)))
    · by_cases h3 : v1 ≤ 3
      · have hz := zl_z16 q.2.2.2.2.2.2.2.1
        by_cases e3 : v1 = 3
        · subst e3
          obtain ⟨A', g', o', B', V', G', F', O', T', k1, k2⟩ := zl_Qfl (xr := 1) (xg := xg) q (by omega)
          obtain ⟨q1, q2, q3, q4, q5, q6, q7, q8, q9, q10⟩ := k1
          exact br_f zl_h10 (br_f h0 (br_t h3 (k2 _ (zl_fz (zl_z16 (fun _ _ => rfl)) (br_f zl_h10 (br_f h0 (br_t h3 (br_t rfl (zl_yk hz ⟨rfl, Or.inr (zl_mkD q1 q2 q3 q5 (by omega) (by omega) (fun b hb => (zl_cp_lt hb).symm))⟩)))))))))
        · obtain ⟨q1, q2, q3, q4, q5, q6, q7, q8, q9, q10⟩ := q
          obtain ⟨A', g', o', B', V', G', F', O', T', k1, k2, k3, k4, k5, k6, k7, k8⟩ := zl_flN (xr := 1) (xg := xg) (ca := ca) e3 q1 q2 q3 q4 q5 (by omega) q9
          exact br_f zl_h10 (br_f h0 (br_t h3 (k8 _ (zl_fz hz (br_f zl_h10 (br_f h0 (br_t h3 (br_f e3 (zl_yd hz ⟨rfl, Or.inr (zl_mkD k1 k2 k3 k5 (by omega) (by omega) (fun b hb => zl_cp_lt hb))⟩)))))))))
      · exact br_f zl_h10 (br_f h0 (br_f h3 (br_f zl_h10 (br_f h0 (br_f h3 ⟨rfl, I5⟩)))))
  · exact br_t rfl (br_t rfl ⟨rfl, I5⟩)
theorem i_vc_mount {k : Nat} {u : SX} {v : SY} (I : i_Rel k u v) (hk : k + 5 ≤ 2560) : wpX_mount (fun r u' => wpY_mount (fun r' v' => r' = r ∧ i_Rel (k + 5) u' v') v) u := by
  have I5 := i_up I
  rcases I with ⟨xg, A, g, o, B, V, G, F, O, T, ca, di, nw, kp, rfl, rfl, q⟩ | ⟨g, o, B, V, G, F, O, T, N, ca, nw, kp, rfl, rfl, q1, q2, q3, q4, q5, q6, q7, q8⟩
  · exact br_f zl_h10 (br_f zl_h10 ⟨rfl, I5⟩)
  · obtain ⟨A', T', k1, k2, k3⟩ := zl_re (xr := 0) (xg := 0) (xa := -1) (xn := nI g) (xo := nI o) (V := V) (ca := ca) (di := fun _ => 0) q1 (by omega) (by omega) q7
    have hQ : zl_Q (8 * k) A' g o B V G F O T' ca (fun _ => 0) nw kp := by
      refine ⟨q1, k2, fun b hb => ?_, k1, q4, q5, q6, fun _ _ => rfl, ?_, fun b hb => ?_⟩
      · rw [q3 b hb, zl_tabQ q1 q2 k2 hb]
      · rw [zl_cn_z 16 (fun j _ => zl_dfz rfl)]
        omega
      · rw [if_pos rfl]
        exact q8 b hb
    exact br_t rfl (k3 _ (br_t rfl ⟨rfl, Or.inl ⟨0, zl_mkR hQ (by omega)⟩⟩))
theorem i_vc_unsynced {k : Nat} {u : SX} {v : SY} (I : i_Rel k u v) (hk : k + 5 ≤ 2560) : wpX_unsynced (fun r => wpY_unsynced (fun r' => r' = r ∧ i_Rel (k + 5) u v) v) u := by
  have I5 := i_up I
  rcases I with ⟨xg, A, g, o, B, V, G, F, O, T, ca, di, nw, kp, rfl, rfl, q⟩ | ⟨g, o, B, V, G, F, O, T, N, ca, nw, kp, rfl, rfl, q⟩
  · unfold wpX_unsynced wpY_unsynced
    exact zl_dc (zl_yf ⟨rfl, I5⟩)
  · unfold wpX_unsynced wpY_unsynced
    exact zl_dc (zl_yf ⟨rfl, I5⟩)
theorem i_vc_grouped {k : Nat} {u : SX} {v : SY} (I : i_Rel k u v) (hk : k + 5 ≤ 2560) : wpX_grouped (fun r => wpY_grouped (fun r' => r' = r ∧ i_Rel (k + 5) u v) v) u := by
  have I5 := i_up I
  rcases I with ⟨xg, A, g, o, B, V, G, F, O, T, ca, di, nw, kp, rfl, rfl, q⟩ | ⟨g, o, B, V, G, F, O, T, N, ca, nw, kp, rfl, rfl, q⟩
  · exact br_c (fun h => br_t h ⟨rfl, I5⟩) (fun h => br_f h ⟨rfl, I5⟩)
  · exact br_t rfl (br_t rfl ⟨rfl, I5⟩)
theorem i_vc_pending {k : Nat} {u : SX} {v : SY} (I : i_Rel k u v) (hk : k + 5 ≤ 2560) : wpX_pending (fun r => wpY_pending (fun r' => r' = r ∧ i_Rel (k + 5) u v) v) u := by
  have I5 := i_up I
  rcases I with ⟨xg, A, g, o, B, V, G, F, O, T, ca, di, nw, kp, rfl, rfl, q⟩ | ⟨g, o, B, V, G, F, O, T, N, ca, nw, kp, rfl, rfl, q⟩
  · obtain ⟨q1, q2, q3, q4, q5, q6, q7, q8, q9, q10⟩ := q
    exact br_f zl_h10 ⟨17, zl_px (f := fun b => if nw b = kp b then 0 else 1) (zl_t72 q2) (fun b hb e => if_pos (by rw [q10 b hb, if_pos e])) (fun b hb e c => if_pos (by rw [q10 b hb, if_neg e, q3 b hb]; exact c))
      (fun b hb e c => if_neg (by rw [q10 b hb, if_neg e, q3 b hb]; exact c)) 16 0 rfl _
      (br_f zl_h10 ⟨17, zl_yp (f := fun b => if nw b = kp b then 0 else 1) (fun b hb e => if_pos e) (fun b hb e => if_neg e) 16 0 rfl _ ⟨rfl, I5⟩⟩)⟩
  · exact br_t rfl (br_t rfl ⟨rfl, I5⟩)
theorem i_vc_sum {k : Nat} {u : SX} {v : SY} (I : i_Rel k u v) (hk : k + 5 ≤ 2560) : wpX_sum (fun r => wpY_sum (fun r' => r' = r ∧ i_Rel (k + 5) u v) v) u := by
  have I5 := i_up I
  rcases I with ⟨xg, A, g, o, B, V, G, F, O, T, ca, di, nw, kp, rfl, rfl, q⟩ | ⟨g, o, B, V, G, F, O, T, N, ca, nw, kp, rfl, rfl, q⟩
  · obtain ⟨q1, q2, q3, q4, q5, q6, q7, q8, q9, q10⟩ := q
    exact br_f zl_h10 ⟨17, zl_sx (w := nw) (zl_t72 q2) (fun b hb => by rw [q10 b hb, q3 b hb]) 16 0 rfl _ ⟨17, zl_ys4 zl_h10 16 0 rfl _ ⟨rfl, I5⟩⟩⟩
  · exact br_t rfl ⟨17, zl_ys0 16 0 rfl 0 _ ⟨rfl, I5⟩⟩
theorem i_vc_clean {k : Nat} {u : SX} {v : SY} (I : i_Rel k u v) (hk : k + 5 ≤ 2560) : wpX_clean (fun r u' => wpY_clean (fun r' => r' = r ∧ i_Rel (k + 5) u' v) v) u := by
  have I5 := i_up I
  rcases I with ⟨xg, A, g, o, B, V, G, F, O, T, ca, di, nw, kp, rfl, rfl, q⟩ | ⟨g, o, B, V, G, F, O, T, N, ca, nw, kp, rfl, rfl, q⟩
  · obtain ⟨q1, q2, q3, q4, q5, q6, q7, q8⟩ := q
    obtain ⟨F', O', k1, k2, k3, k4, k5⟩ := zl_cl11 (xr := 1) (xg := xg) (xn := nI g) (xo := nI o) (rb := zl_nA B) (rv := V) (rg := zl_nA G) (ca := ca) (di := di) (xa := zl_oI A) (A := A) rfl (by omega) 6 0 rfl F O q1 q2 q4 q5
    exact br_f zl_h10 ⟨7, k5 _ (br_f zl_h10 ⟨rfl, Or.inl ⟨xg, zl_mkR (m := 8 * k) ⟨k1, k2, q3, k3, k4, q6, q7, q8⟩ (by omega)⟩⟩)⟩
  · exact br_t rfl (br_t rfl ⟨rfl, I5⟩)
theorem i_vc_check {k : Nat} {u : SX} {v : SY} (I : i_Rel k u v) (hk : k + 5 ≤ 2560) : wpX_check (fun r => wpY_check (fun r' => r' = r ∧ i_Rel (k + 5) u v) v) u := by
  have I5 := i_up I
  rcases I with ⟨xg, A, g, o, B, V, G, F, O, T, ca, di, nw, kp, rfl, rfl, q⟩ | ⟨g, o, B, V, G, F, O, T, N, ca, nw, kp, rfl, rfl, q⟩
  · obtain ⟨q1, q2, q3, q4, q5, q6, q7, q8⟩ := q
    exact br_f zl_h10 ⟨17, zl_ck13 q1 (by omega) q2 16 0 rfl _ (br_f zl_h10 ⟨rfl, I5⟩)⟩
  · exact br_t rfl (br_t rfl ⟨rfl, I5⟩)
end
