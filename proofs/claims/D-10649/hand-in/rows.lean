section
/-! an int by its value; branches by values -/
def zz_I (z : Int) : Int32 := Int32.ofInt z
def zz_b (z : Int) : Prop := -2000000000 ≤ z ∧ z ≤ 2000000000
theorem zz_t {z : Int} (h : zz_b z) : (zz_I z).toInt = z := Int32.toInt_ofInt_of_le (by have h1 := h.1; omega) (by have h2 := h.2; omega)
theorem zz_leI {a b : Int} (ha : zz_b a) (hb : zz_b b) : zz_I a ≤ zz_I b ↔ a ≤ b := by
  rw [Int32.le_iff_toInt_le, zz_t ha, zz_t hb]
theorem zz_ltI {a b : Int} (ha : zz_b a) (hb : zz_b b) : zz_I a < zz_I b ↔ a < b := by
  rw [Int32.lt_iff_toInt_lt, zz_t ha, zz_t hb]
theorem zz_eqI {a b : Int} (ha : zz_b a) (hb : zz_b b) : zz_I a = zz_I b ↔ a = b := by
  rw [← Int32.toInt_inj, zz_t ha, zz_t hb]
theorem zz_add (a b : Int) : zz_I a + zz_I b = zz_I (a + b) := (Int32.ofInt_add a b).symm
theorem zz_sub (a b : Int) : zz_I a - zz_I b = zz_I (a - b) := (Int32.ofInt_sub a b).symm
theorem zz_mul (a b : Int) : zz_I a * zz_I b = zz_I (a * b) := (Int32.ofInt_mul a b).symm
theorem zz_neg (a : Int) : - zz_I a = zz_I (-a) := Int32.neg_ofInt
theorem zz_nat (n : Nat) : nI n = zz_I (n : Int) := Int32.ofInt_eq_ofNat.symm
theorem zz_of (x : Int32) : zz_I x.toInt = x := Int32.ofInt_toInt x
theorem zz_0 : (0 : Int32) = zz_I 0 := by decide
theorem zz_1 : (1 : Int32) = zz_I 1 := by decide
theorem zz_7 : (7 : Int32) = zz_I 7 := by decide
theorem zz_far : (1048576 : Int32) = zz_I 1048576 := by decide
theorem zz_low : (-4000 : Int32) = zz_I (-4000) := by decide
theorem zz_none : (-3000 : Int32) = zz_I (-3000) := by decide
theorem zz_le {x y : Int32} {P Q : Prop} (a b : Int) (f : a ≤ b → P) (g : b < a → Q) (hx : x = zz_I a := by rfl) (hy : y = zz_I b := by rfl) (ha : zz_b a := by unfold zz_b; omega) (hb : zz_b b := by unfold zz_b; omega) : (x ≤ y → P) ∧ (¬ x ≤ y → Q) := by
  subst hx hy
  rw [zz_leI ha hb]
  exact ⟨f, fun z => g (by omega)⟩
theorem zz_lt {x y : Int32} {P Q : Prop} (a b : Int) (f : a < b → P) (g : b ≤ a → Q) (hx : x = zz_I a := by rfl) (hy : y = zz_I b := by rfl) (ha : zz_b a := by unfold zz_b; omega) (hb : zz_b b := by unfold zz_b; omega) : (x < y → P) ∧ (¬ x < y → Q) := by
  subst hx hy
  rw [zz_ltI ha hb]
  exact ⟨f, fun z => g (by omega)⟩
theorem zz_eq {x y : Int32} {P Q : Prop} (a b : Int) (f : a = b → P) (g : a ≠ b → Q) (hx : x = zz_I a := by rfl) (hy : y = zz_I b := by rfl) (ha : zz_b a := by unfold zz_b; omega) (hb : zz_b b := by unfold zz_b; omega) : (x = y → P) ∧ (¬ x = y → Q) := by
  subst hx hy
  rw [zz_eqI ha hb]
  exact ⟨f, g⟩
/-! arrays -/
theorem zz_self (f : Nat → Int32) (k : Nat) : upd f k (f k) = f := by
  funext j
  unfold upd
  split
  · rename_i h
    rw [h]
  · rfl
theorem zz_selfE {f : Nat → Int32} {k : Nat} {x : Int32} (h : f k = x) : upd f k x = f := by
  rw [← h]
  exact zz_self f k
theorem zz_cl {n : Nat} (h : n < 1000) : (nI n).toNatClampNeg = n := nI_clamp (by omega)
theorem zz_at {a : Nat → Int32} {n : Nat} {v : Int32} (h : a n = v) (hn : n < 1000 := by omega) : a (nI n).toNatClampNeg = v := by
  rw [zz_cl hn]
  exact h
theorem zz_fill {f s : Nat → Int32} {i k : Nat} {x : Int32} (hk : k = i) (h : ∀ j, j < i → s j = f j) (hx : x = f i) : ∀ j, j < i + 1 → upd s k x j = f j := by
  intro j hj
  rw [hk]
  by_cases e : j = i
  · rw [e, pk_us, hx]
  · rw [pk_un e]
    exact h j (by omega)
/-- the byte of a small number -/
theorem zz_by : ∀ n, n < 100 → (nI n).toInt8.toInt32 = nI n := by decide +kernel
theorem zz_vb : ∀ n, n < 100 → vp_nar .byte (nI n) = nI n := by
  intro n hn
  rw [vp_nar_byte]
  exact zz_by n hn
theorem zz_ix (a b : Nat) : nI a * 7 + nI b = nI (a * 7 + b) := by
  rw [← nI_add, ← pk_mul]
  rfl
theorem zz_dv {i : Nat} (h : i < 1000) : nI i / 7 = nI (i / 7) := pk_div (d := 7) (by omega) (by omega) (by omega)
theorem zz_rm {i : Nat} (h : i < 1000) : nI i - nI i / 7 * 7 = nI (i % 7) := pk_rem (d := 7) (by omega) (by omega) (by omega)
/-- a loop over the twenty arcs: one arc at most is there, the first -/
theorem zz_arc {σ : Type} (c : Bool) (W : Nat → Nat → σ → Prop) (I : σ → Prop) (s0 : σ)
    (hx : ∀ n s, I s → W (n + 1) 20 s)
    (hs : ∀ n i s, (c = true → 1 ≤ i) → i < 20 → W n (i + 1) s → W (n + 1) i s)
    (hF : c = false → I s0)
    (hT : c = true → ∀ n, (∀ s, I s → W n 1 s) → W (n + 1) 0 s0) : ∃ n, W n 0 s0 := by
  have tail : ∀ m i s, 1 ≤ i → i + m = 20 → I s → W (m + 1) i s := by
    intro m
    induction m with
    | zero =>
      intro i s h1 h2 hI
      have e : i = 20 := by omega
      subst e
      exact hx 0 s hI
    | succ m ih =>
      intro i s h1 h2 hI
      exact hs (m + 1) i s (fun _ => h1) (by omega) (ih (i + 1) s (by omega) (by omega) hI)
  refine ⟨21, ?_⟩
  by_cases hc : c = true
  · exact hT hc 20 (fun s hI => tail 19 1 s (by omega) (by omega) hI)
  · have hc' : c = false := Bool.eq_false_iff.mpr hc
    exact hs 20 0 s0 (fun h => absurd h hc) (by omega) (tail 19 1 s0 (by omega) (by omega) (hF hc'))
/-! the arcs of a state: none, or one at place 0 -/
def gg_G (c : Bool) (A B : Nat) (w : Int) (f0 : Int32) (a1 a2 a3 : Nat → Int32) : Prop :=
  f0 = (if c = true then 1 else 0) ∧ (A < 7 ∧ B < 7 ∧ -20 ≤ w ∧ w ≤ 20) ∧ (a1 0 = nI A ∧ a2 0 = nI B ∧ a3 0 = zz_I w) ∧ ∀ k, 1 ≤ k → k < 20 → a1 k = nI 0 ∧ a2 k = nI 0
section
variable {c : Bool} {A B : Nat} {w : Int} {f0 f1 f2 f3 : Int32} {a1 a2 a3 a4 a5 a6 a7 a8 a9 a10 a11 a12 a13 a14 a15 a16 a17 a18 a19 : Nat → Int32}
theorem gg_a1 (g : gg_G c A B w f0 a1 a2 a3) : a1 (nI 0).toNatClampNeg = nI A := zz_at g.2.2.1.1
theorem gg_a2 (g : gg_G c A B w f0 a1 a2 a3) : a2 (nI 0).toNatClampNeg = nI B := zz_at g.2.2.1.2.1
theorem gg_a3 (g : gg_G c A B w f0 a1 a2 a3) : a3 (nI 0).toNatClampNeg = zz_I w := zz_at g.2.2.1.2.2
/-- any arc's ends are points -/
theorem gg_k1 (g : gg_G c A B w f0 a1 a2 a3) {k : Nat} (hk : k < 20) : ∃ p, p < 7 ∧ a1 (nI k).toNatClampNeg = nI p := by
  obtain ⟨_, ⟨hA, _⟩, ⟨h1, _⟩, hr⟩ := g
  rw [zz_cl (by omega)]
  rcases Nat.eq_zero_or_pos k with e | e
  · exact ⟨A, hA, by rw [e]; exact h1⟩
  · exact ⟨0, by omega, (hr k e hk).1⟩
theorem gg_k2 (g : gg_G c A B w f0 a1 a2 a3) {k : Nat} (hk : k < 20) : ∃ p, p < 7 ∧ a2 (nI k).toNatClampNeg = nI p := by
  obtain ⟨_, ⟨_, hB, _⟩, ⟨_, h1, _⟩, hr⟩ := g
  rw [zz_cl (by omega)]
  rcases Nat.eq_zero_or_pos k with e | e
  · exact ⟨B, hB, by rw [e]; exact h1⟩
  · exact ⟨0, by omega, (hr k e hk).2⟩
theorem gg_b0 : ∀ k, k < 20 → ((0 : Int32) >>> (nI k &&& 31)) &&& 1 = 0 := by decide +kernel
theorem gg_b1 : ∀ k, k < 20 → 1 ≤ k → ((1 : Int32) >>> (nI k &&& 31)) &&& 1 = 0 := by decide +kernel
theorem gg_has1 {post : Int32 → Prop} (g : gg_G c A B w f0 a1 a2 a3) (hc : c = true) (h : post 1) : wpX_has post (f0, f1, f2, f3, a1, a2, a3, a4, a5, a6, a7, a8, a9, a10, a11, a12, a13, a14, a15, a16, a17, a18, a19) (nI 0) := by
  have hf : f0 = 1 := by rw [g.1, if_pos hc]
  subst hf
  exact br_f (by decide) (br_f (by decide) (br_f (by decide) h))
theorem gg_has0 {post : Int32 → Prop} (g : gg_G c A B w f0 a1 a2 a3) {k : Nat} (hk : c = true → 1 ≤ k) (hk2 : k < 20) (h : post 0) : wpX_has post (f0, f1, f2, f3, a1, a2, a3, a4, a5, a6, a7, a8, a9, a10, a11, a12, a13, a14, a15, a16, a17, a18, a19) (nI k) := by
  refine br_f (nI_pos (by omega)) (br_f (nI_ge (b := 20) hk2 (by decide)) (br_t ?_ h))
  by_cases hc : c = true
  · have hf : f0 = 1 := by rw [g.1, if_pos hc]
    rw [hf]
    exact gg_b1 k hk2 (hk hc)
  · have hf : f0 = 0 := by rw [g.1, if_neg hc]
    rw [hf]
    exact gg_b0 k hk2
end
end
section
/-! plain pictures -/
def pp_m (w : Int) : Nat → Int
  | 0 => 0
  | j + 1 => pp_m w j + w
theorem pp_mb {w : Int} (h1 : -20 ≤ w) (h2 : w ≤ 20) : ∀ j : Nat, -20 * (j : Int) ≤ pp_m w j ∧ pp_m w j ≤ 20 * (j : Int) := by
  intro j
  induction j with
  | zero => exact ⟨by simp [pp_m], by simp [pp_m]⟩
  | succ j ih =>
    have e : pp_m w (j + 1) = pp_m w j + w := rfl
    rw [e]
    omega
theorem pp_mn {w : Int} (h : w < 0) : ∀ j : Nat, pp_m w j ≤ -(j : Int) := by
  intro j
  induction j with
  | zero => simp [pp_m]
  | succ j ih =>
    have e : pp_m w (j + 1) = pp_m w j + w := rfl
    rw [e]
    omega
theorem pp_mm (w : Int) : ∀ j : Nat, pp_m w j = (j : Int) * w := by
  intro j
  induction j with
  | zero => simp [pp_m]
  | succ j ih =>
    have e : pp_m w (j + 1) = pp_m w j + w := rfl
    rw [e, ih, Int.natCast_add, Int.add_mul]
    simp
/-- the falling loop at s -/
abbrev pp_L (c : Bool) (A B : Nat) (w : Int) (s : Nat) : Prop := c = true ∧ A = s ∧ B = s ∧ w < 0
/-- the table: z at the falling loop -/
def pp_T (c : Bool) (A B : Nat) (w z : Int) (s t : Nat) : Int :=
  if s = t then (if pp_L c A B w s then z else 0) else if c = true ∧ A = s ∧ B = t then w else 1048576
/-- ways from s after j rounds -/
def pp_D (c : Bool) (A B : Nat) (w : Int) (s j p : Nat) : Int :=
  if s = p then (if pp_L c A B w s then pp_m w j else 0) else if c = true ∧ A = s ∧ B = p ∧ 1 ≤ j then w else 1048576
theorem pp_Db {c : Bool} {A B : Nat} {w : Int} (h1 : -20 ≤ w) (h2 : w ≤ 20) (s j p : Nat) (hj : j ≤ 100) : -2000 ≤ pp_D c A B w s j p ∧ pp_D c A B w s j p ≤ 1048576 := by
  have h := pp_mb h1 h2 j
  unfold pp_D
  split
  · split <;> omega
  · split <;> omega
theorem pp_D0 {c : Bool} {A B : Nat} {w : Int} (s p : Nat) : pp_D c A B w s 0 p = if p = s then 0 else 1048576 := by
  unfold pp_D pp_m
  grind
theorem pp_Df {A B : Nat} {w : Int} (s j p : Nat) : pp_D false A B w s j p = pp_D false A B w s 0 p := by
  unfold pp_D
  grind
theorem pp_DT {c : Bool} {A B : Nat} {w : Int} (s j p : Nat) (hj : 1 ≤ j) : pp_D c A B w s j p = pp_T c A B w (pp_m w j) s p := by
  unfold pp_D pp_T
  grind
/-- a round that betters a way -/
theorem pp_Dt {A B : Nat} {w : Int} {s j : Nat} (h1 : -20 ≤ w) (h2 : w ≤ 20) (hj : j ≤ 100) (hx : pp_D true A B w s j A < 1048576) (hy : pp_D true A B w s j A + w < pp_D true A B w s j B) (p : Nat) :
    (if p = B then pp_D true A B w s j A + w else pp_D true A B w s j p) = pp_D true A B w s (j + 1) p := by
  have h := pp_mb h1 h2 j
  have e : pp_m w (j + 1) = pp_m w j + w := rfl
  have e0 : pp_m w 0 = 0 := rfl
  unfold pp_D at *
  grind
/-- a round that betters none -/
theorem pp_Dn {A B : Nat} {w : Int} {s j : Nat} (h1 : -20 ≤ w) (h2 : w ≤ 20) (hj : j ≤ 100) (hn : ¬ (pp_D true A B w s j A < 1048576 ∧ pp_D true A B w s j A + w < pp_D true A B w s j B)) (p : Nat) :
    pp_D true A B w s j p = pp_D true A B w s (j + 1) p := by
  have h := pp_mb h1 h2 j
  have e : pp_m w (j + 1) = pp_m w j + w := rfl
  have e0 : pp_m w 0 = 0 := rfl
  unfold pp_D at *
  grind
/-- when a later round betters a way -/
theorem pp_Dw {A B : Nat} {w : Int} {s j : Nat} (h1 : -20 ≤ w) (h2 : w ≤ 20) (hj : j ≤ 100) (hj1 : 1 ≤ j) :
    (pp_D true A B w s j A < 1048576 ∧ pp_D true A B w s j A + w < pp_D true A B w s j B) ↔ pp_L true A B w s := by
  have h := pp_mb h1 h2 j
  unfold pp_D
  grind
theorem pp_Tb {c : Bool} {A B : Nat} {w z : Int} (h1 : -20 ≤ w) (h2 : w ≤ 20) (hz : -1000000 ≤ z) (hz2 : z ≤ 0) (s t : Nat) : -1000000 ≤ pp_T c A B w z s t ∧ pp_T c A B w z s t ≤ 1048576 := by
  unfold pp_T
  split
  · split <;> omega
  · split <;> omega
end
section
section
variable {c : Bool} {A B : Nat} {w : Int} {f0 f1 f2 f3 : Int32} {a1 a2 a3 a4 a5 a6 a7 a8 a9 a10 a11 a12 a13 a14 a15 a16 a17 a18 a19 : Nat → Int32}
theorem zz_keep {s v : Nat → Int32} {i k N : Nat} {x : Int32} (hk : k = i) (h : ∀ q, i ≤ q → q < N → s q = v q) : ∀ q, i + 1 ≤ q → q < N → upd s k x q = v q := by
  intro q h1 h2
  rw [hk, pk_un (by omega)]
  exact h q (by omega) h2
theorem zz_cix {s i : Nat} (h : s * 7 + i < 1000) : (nI s * 7 + nI i).toNatClampNeg = s * 7 + i := by
  rw [zz_ix]
  exact zz_cl h
/-- startFrom -/
theorem qq_startFrom {post : St2 → Prop} {s : Nat} (hs : s < 7) (H : ∀ d l, (∀ p, p < 7 → d p = zz_I (if p = s then 0 else 1048576)) → (∀ p, p < 7 → l p = 0) → post (f0, f1, f2, f3, a1, a2, a3, a4, a5, d, l, a8, a9, a10, a11, a12, a13, a14, a15, a16, a17, a18, a19)) : wpX_startFrom post (f0, f1, f2, f3, a1, a2, a3, a4, a5, a6, a7, a8, a9, a10, a11, a12, a13, a14, a15, a16, a17, a18, a19) (nI s) :=
  pk_loop (σ := (Nat → Int32) × (Nat → Int32)) (fun n i u => wX_startFrom_2 post (nI s) f0 f1 f2 f3 n (nI i) a1 a2 a3 a4 a5 u.1 u.2 a8 a9 a10 a11 a12 a13 a14 a15 a16 a17 a18 a19)
    (fun i u => (∀ p, p < i → u.1 p = zz_I (if p = s then 0 else 1048576)) ∧ (∀ p, p < i → u.2 p = 0)) 7 0 (a6, a7) (by omega) ⟨lt_0, lt_0⟩
    (fun n u h => pk_le 7 7 (fun _ => H u.1 u.2 h.1 h.2) (fun z => absurd z (by omega)))
    (fun n i u hi h hw => pk_le 7 i (fun z => absurd z (by omega)) (fun _ => pk_eq i s
      (fun e => ⟨pk_in i 7 hi, nm_e ⟨pk_in i 7 hi, nm_e (nm_r (nI_1 i) (hw (_, _) ⟨zz_fill (zz_cl (by omega)) h.1 (by rw [if_pos e]; exact zz_0), zz_fill (zz_cl (by omega)) h.2 rfl⟩))⟩⟩)
      (fun e => ⟨pk_in i 7 hi, nm_e ⟨pk_in i 7 hi, nm_e (nm_r (nI_1 i) (hw (_, _) ⟨zz_fill (zz_cl (by omega)) h.1 (by rw [if_neg e]; exact zz_far), zz_fill (zz_cl (by omega)) h.2 rfl⟩))⟩⟩)))
/-! spread: the masks -/
def sp_0 (p : Nat) : Int32 := (1 : Int32) <<< (nI p &&& 31)
def sp_1 (c : Bool) (A B p : Nat) : Int32 := if c = true ∧ p = A then sp_0 p ||| sp_0 B else sp_0 p
theorem sp_f1 : ∀ A, A < 7 → ∀ p, p < 7 → ((sp_0 p >>> (nI A &&& 31)) &&& 1 = 0 ↔ ¬ p = A) := by decide +kernel
theorem sp_f2 : ∀ A, A < 7 → ∀ B, B < 7 → ¬ (((sp_0 A ||| sp_0 B) >>> (nI A &&& 31)) &&& 1 = 0) := by decide +kernel
theorem sp_f3 : ∀ A, A < 7 → ∀ B, B < 7 → (sp_0 A ||| sp_0 B) ||| sp_0 B = sp_0 A ||| sp_0 B := by decide +kernel
theorem sp_f4 : ∀ p, p < 7 → ∀ B, B < 7 → ∀ q, q < 7 → (((sp_0 p ||| sp_0 B) >>> (nI q &&& 31)) &&& 1 = 0 ↔ ¬ (q = p ∨ q = B)) := by decide +kernel
theorem sp_f5 : ∀ p, p < 7 → ¬ sp_0 p = 0 := by decide +kernel
theorem sp_f6 {A B p : Nat} : sp_1 false A B p = sp_0 p := by
  unfold sp_1
  exact if_neg (fun h => Bool.noConfusion h.1)
theorem sp_13 {post : Int32 → Prop} {J : Int32 → Int32 → Prop} {x3 m : Int32} (g : gg_G c A B w f0 a1 a2 a3) {p : Nat} (hp : p < 7) (hm : m = sp_0 p ∨ m = sp_1 c A B p) (H : J (sp_1 c A B p) (x3 + 1)) : ∃ n, wX_spread_13 post J x3 f0 f1 f2 f3 a1 a2 a3 a4 a5 a6 a7 a8 a9 a10 a11 a12 a13 a14 a15 a16 a17 a18 a19 n m 0 := by
  have hA : A < 7 := g.2.1.1
  have hB : B < 7 := g.2.1.2.1
  refine zz_arc c (fun n i m => wX_spread_13 post J x3 f0 f1 f2 f3 a1 a2 a3 a4 a5 a6 a7 a8 a9 a10 a11 a12 a13 a14 a15 a16 a17 a18 a19 n m (nI i)) (fun m' => m' = sp_1 c A B p) m
    (fun n s h => pk_le 20 20 (fun _ => nm_e (by rw [h]; exact H)) (fun z => absurd z (by omega)))
    (fun n i s hi hi2 hw => pk_le 20 i (fun z => absurd z (by omega)) (fun _ => gg_has0 g hi hi2 (br_t rfl (nm_r Int32.or_zero (nm_r (nI_1 i) hw)))))
    (fun hc => ?_)
    (fun hc n hw => pk_le 20 0 (fun z => absurd z (by omega)) (fun _ => gg_has1 g hc (br_f (by decide) ⟨pk_in 0 20 (by omega), ?_⟩)))
  · subst hc
    rcases hm with e | e
    · rw [e, sp_f6]
    · exact e
  · by_cases hpA : p = A
    · have e1 : sp_1 c A B p = sp_0 p ||| sp_0 B := if_pos ⟨hc, hpA⟩
      refine br_f ?_ ⟨pk_in 0 20 (by omega), nm_r (e' := sp_1 c A B p) ?_ (nm_r (nI_1 0) (hw _ rfl))⟩
      · rw [gg_a1 g]
        rcases hm with e | e
        · rw [e]
          exact fun z => (sp_f1 A hA p hp).mp z hpA
        · rw [e, e1, hpA]
          exact sp_f2 A hA B hB
      · rw [gg_a2 g]
        rcases hm with e | e
        · rw [e, e1]
          rfl
        · rw [e, e1]
          exact sp_f3 p hp B hB
    · have e1 : sp_1 c A B p = sp_0 p := if_neg (fun h => hpA h.2)
      have em : m = sp_0 p := by
        rcases hm with e | e
        · exact e
        · rw [e, e1]
      exact br_t (by rw [gg_a1 g, em]; exact (sp_f1 A hA p hp).mpr hpA) (nm_r Int32.or_zero (nm_r (nI_1 0) (hw _ (by rw [em, e1]))))
theorem qq_spread {post : Int32 → Prop} (g : gg_G c A B w f0 a1 a2 a3) {p : Nat} (hp : p < 7) (H : ∀ r, (∀ q, q < 7 → (((r >>> (nI q &&& 31)) &&& 1 = 0) ↔ ¬ (q = p ∨ (c = true ∧ p = A ∧ q = B)))) → post r) : wpX_spread post (f0, f1, f2, f3, a1, a2, a3, a4, a5, a6, a7, a8, a9, a10, a11, a12, a13, a14, a15, a16, a17, a18, a19) ((1 : Int32) <<< (nI p &&& 31)) := by
  have hA : A < 7 := g.2.1.1
  have hB : B < 7 := g.2.1.2.1
  refine pk_loop (fun n i m => wX_spread_4 post f0 f1 f2 f3 a1 a2 a3 a4 a5 a6 a7 a8 a9 a10 a11 a12 a13 a14 a15 a16 a17 a18 a19 n m (nI i)) (fun i m => m = (if i = 0 then sp_0 p else sp_1 c A B p)) 7 0 (sp_0 p) (by omega) rfl
    (fun n m h => pk_le 7 7 (fun _ => ?_) (fun z => absurd z (by omega)))
    (fun n i m hi h hw => pk_le 7 i (fun z => absurd z (by omega)) (fun _ => sp_13 g hp ?_ ?_))
  · rw [if_neg (by omega)] at h
    rw [h]
    refine H _ (fun q hq => ?_)
    unfold sp_1
    by_cases e : c = true ∧ p = A
    · rw [if_pos e, sp_f4 p hp B hB q hq]
      obtain ⟨e1, e2⟩ := e
      simp [e1, e2]
    · rw [if_neg e, sp_f1 q hq p hp]
      constructor
      · intro z t
        rcases t with t | t
        · exact z t.symm
        · exact e ⟨t.1, t.2.1⟩
      · intro z t
        exact z (Or.inl t.symm)
  · by_cases e : i = 0
    · rw [if_pos e] at h
      exact Or.inl h
    · rw [if_neg e] at h
      exact Or.inr h
  · rw [nI_1]
    exact hw _ (if_neg (by omega)).symm
/-- lowerFrom: the loop over the points -/
theorem qq_low16 {post : St2 → Prop} {x2 : Int32} {b : Nat → Bool} (hb : ∀ q, q < 7 → (((x2 >>> (nI q &&& 31)) &&& 1 = 0) ↔ b q = false)) (h7 : ∀ q, q < 7 → a7 q = 0) (H : ∀ l, (∀ q, q < 7 → l q = if b q = true then 1 else 0) → post (f0, f1, f2, f3, a1, a2, a3, a4, a5, a6, l, a8, a9, a10, a11, a12, a13, a14, a15, a16, a17, a18, a19)) : ∃ n, wX_lowerFrom_16 post x2 f0 f1 f2 f3 n 0 a1 a2 a3 a4 a5 a6 a7 a8 a9 a10 a11 a12 a13 a14 a15 a16 a17 a18 a19 :=
  pk_loop (fun n i l => wX_lowerFrom_16 post x2 f0 f1 f2 f3 n (nI i) a1 a2 a3 a4 a5 a6 l a8 a9 a10 a11 a12 a13 a14 a15 a16 a17 a18 a19) (fun i l => (∀ q, q < i → l q = if b q = true then 1 else 0) ∧ (∀ q, i ≤ q → q < 7 → l q = 0)) 7 0 a7 (by omega) ⟨lt_0, fun q _ hq => h7 q hq⟩
    (fun n l h => pk_le 7 7 (fun _ => H l h.1) (fun z => absurd z (by omega)))
    (fun n i l hi h hw => pk_le 7 i (fun z => absurd z (by omega)) (fun _ => ⟨pk_in i 7 hi, br_t (zz_at (h.2 i (Nat.le_refl i) hi)) (ek_if (hb i hi)
      (fun e => ⟨pk_in i 7 hi, nm_e (nm_r (nI_1 i) (hw _ ⟨zz_fill (zz_cl (by omega)) h.1 (by rw [e]; rfl), zz_keep (zz_cl (by omega)) h.2⟩))⟩)
      (fun e => ⟨pk_in i 7 hi, nm_e (nm_r (nI_1 i) (hw _ ⟨zz_fill (zz_cl (by omega)) h.1 (by rw [if_pos (Bool.not_eq_false _ ▸ e)]), zz_keep (zz_cl (by omega)) h.2⟩))⟩))⟩))
theorem qq_low0 {post : St2 → Prop} (h7 : ∀ q, q < 7 → a7 q = 0) (H : ∀ l, (∀ q, q < 7 → l q = 0) → post (f0, f1, f2, f3, a1, a2, a3, a4, a5, a6, l, a8, a9, a10, a11, a12, a13, a14, a15, a16, a17, a18, a19)) : wpX_lowerFrom post (f0, f1, f2, f3, a1, a2, a3, a4, a5, a6, a7, a8, a9, a10, a11, a12, a13, a14, a15, a16, a17, a18, a19) 0 :=
  br_t rfl (qq_low16 (b := fun _ => false) (fun q hq => ⟨fun _ => rfl, fun _ => gg_b0 q (by omega)⟩) h7 (fun l h => H l (fun q hq => (h q hq).trans (if_neg (by decide)))))
theorem qq_low1 {post : St2 → Prop} (g : gg_G c A B w f0 a1 a2 a3) {v : Nat} (hv : v < 7) (hl : c = true → v = A → B = v) (h7 : ∀ q, q < 7 → a7 q = 0) (H : ∀ l, (∀ q, q < 7 → l q = if q = v then 1 else 0) → post (f0, f1, f2, f3, a1, a2, a3, a4, a5, a6, l, a8, a9, a10, a11, a12, a13, a14, a15, a16, a17, a18, a19)) : wpX_lowerFrom post (f0, f1, f2, f3, a1, a2, a3, a4, a5, a6, a7, a8, a9, a10, a11, a12, a13, a14, a15, a16, a17, a18, a19) ((1 : Int32) <<< (nI v &&& 31)) :=
  br_f (sp_f5 v hv) (qq_spread g hv (fun r hr => qq_low16 (b := fun q => decide (q = v)) (fun q hq => by
      rw [hr q hq]
      constructor
      · intro z
        exact decide_eq_false (fun t => z (Or.inl t))
      · intro z t
        have z' : ¬ q = v := of_decide_eq_false z
        rcases t with t | t
        · exact z' t
        · exact z' (t.2.2.trans (hl t.1 t.2.1))) h7
      (fun l h => H l (fun q hq => by
        rw [h q hq]
        by_cases e : q = v
        · rw [if_pos e, if_pos (decide_eq_true e)]
        · rw [if_neg e, if_neg (by rw [decide_eq_false e]; decide)]))))
/-- writeFrom: a row of what was found -/
theorem zz_fill2 {F : Nat → Int32} {s i k : Nat} {x : Int32} {R : Nat → Int} (hk : k = s * 7 + i) (h : ∀ t, t < i → F (s * 7 + t) = zz_I (R t)) (hx : x = zz_I (R i)) : ∀ t, t < i + 1 → upd F k x (s * 7 + t) = zz_I (R t) := by
  intro t ht
  rw [hk]
  by_cases e : t = i
  · rw [e, pk_us, hx]
  · rw [pk_un (by omega)]
    exact h t (by omega)
theorem zz_keep2 {F G : Nat → Int32} {s i k : Nat} {x : Int32} (hk : k = s * 7 + i) (hi : i < 7) (h : ∀ j, (j < s * 7 ∨ s * 7 + 7 ≤ j) → F j = G j) : ∀ j, (j < s * 7 ∨ s * 7 + 7 ≤ j) → upd F k x j = G j := by
  intro j hj
  rw [hk, pk_un (by omega)]
  exact h j hj
theorem qq_write {post : St2 → Prop} {s : Nat} (hs : s < 7) {R : Nat → Int} (hR : ∀ t, t < 7 → (a7 t = 0 ∧ a6 t = zz_I (R t)) ∨ (¬ a7 t = 0 ∧ R t = -4000))
    (H : ∀ F, (∀ t, t < 7 → F (s * 7 + t) = zz_I (R t)) → (∀ j, (j < s * 7 ∨ s * 7 + 7 ≤ j) → F j = a4 j) → post (f0, f1, f2, f3, a1, a2, a3, F, a5, a6, a7, a8, a9, a10, a11, a12, a13, a14, a15, a16, a17, a18, a19)) : wpX_writeFrom post (f0, f1, f2, f3, a1, a2, a3, a4, a5, a6, a7, a8, a9, a10, a11, a12, a13, a14, a15, a16, a17, a18, a19) (nI s) := by
  refine pk_loop (fun n i F => wX_writeFrom_2 post (nI s) f0 f1 f2 f3 n (nI i) a1 a2 a3 F a5 a6 a7 a8 a9 a10 a11 a12 a13 a14 a15 a16 a17 a18 a19) (fun i F => (∀ t, t < i → F (s * 7 + t) = zz_I (R t)) ∧ ∀ j, (j < s * 7 ∨ s * 7 + 7 ≤ j) → F j = a4 j) 7 0 a4 (by omega) ⟨lt_0, fun _ _ => rfl⟩
    (fun n F h => pk_le 7 7 (fun _ => H F h.1 h.2) (fun z => absurd z (by omega)))
    (fun n i F hi h hw => pk_le 7 i (fun z => absurd z (by omega)) (fun _ => ⟨pk_in i 7 hi, ?_⟩))
  rcases hR i hi with ⟨e1, e2⟩ | ⟨e1, e2⟩
  · exact br_t (zz_at e1) ⟨pk_in i 7 hi, pk_in (s * 7 + i) 49 (by omega) (zz_ix s i), nm_e (nm_r (nI_1 i) (hw _ ⟨zz_fill2 (zz_cix (by omega)) h.1 (zz_at e2), zz_keep2 (zz_cix (by omega)) hi h.2⟩))⟩
  · exact br_f (by rw [zz_cl (by omega)]; exact e1) ⟨pk_in (s * 7 + i) 49 (by omega) (zz_ix s i), nm_e (nm_r (nI_1 i) (hw _ ⟨zz_fill2 (zz_cix (by omega)) h.1 (by rw [e2]; exact zz_low), zz_keep2 (zz_cix (by omega)) hi h.2⟩))⟩
/-- relax the arc -/
theorem qq_relax1 {post : Int32 → St2 → Prop} (g : gg_G c A B w f0 a1 a2 a3) {x y : Int} (hx : a6 A = zz_I x) (hy : a6 B = zz_I y) (bx : zz_b x) (by' : zz_b y) (h1 : x < 1048576) (h2 : x + w < y) (bw : zz_b (x + w)) (h : post 1 (f0, f1, f2, f3, a1, a2, a3, a4, a5, (upd a6 B (zz_I (x + w))), a7, a8, a9, a10, a11, a12, a13, a14, a15, a16, a17, a18, a19)) : wpX_relax post (f0, f1, f2, f3, a1, a2, a3, a4, a5, a6, a7, a8, a9, a10, a11, a12, a13, a14, a15, a16, a17, a18, a19) (nI 0) := by
  have hA : A < 7 := g.2.1.1
  have hB : B < 7 := g.2.1.2.1
  have ea : a6 (nI A).toNatClampNeg = zz_I x := zz_at hx
  have eb : a6 (nI B).toNatClampNeg = zz_I y := zz_at hy
  have es : a6 (nI A).toNatClampNeg + a3 (nI 0).toNatClampNeg = zz_I (x + w) := by rw [ea, gg_a3 g, zz_add]
  refine ⟨pk_in 0 20 (by omega), nm_r (gg_a1 g) ⟨pk_in 0 20 (by omega), nm_r (gg_a2 g) ⟨pk_in A 7 hA, zz_le 1048576 x (fun z => absurd z (by omega)) (fun _ => ⟨pk_in A 7 hA, pk_in 0 20 (by omega), pk_in B 7 hB, zz_le y (x + w) (fun z => absurd z (by omega)) (fun _ => ?_) eb es by' bw⟩) zz_far ea ⟨by omega, by omega⟩ bx⟩⟩⟩
  exact br_f (by decide) ⟨pk_in A 7 hA, pk_in 0 20 (by omega), pk_in B 7 hB, nm_r (e' := upd a6 B (zz_I (x + w))) (by rw [es, zz_cl (by omega)]) ⟨rfl, h⟩⟩
theorem qq_relax0 {post : Int32 → St2 → Prop} (g : gg_G c A B w f0 a1 a2 a3) {x y : Int} (hx : a6 A = zz_I x) (hy : a6 B = zz_I y) (bx : zz_b x) (by' : zz_b y) (h1 : ¬ (x < 1048576 ∧ x + w < y)) (bw : zz_b (x + w)) (h : post 0 (f0, f1, f2, f3, a1, a2, a3, a4, a5, a6, a7, a8, a9, a10, a11, a12, a13, a14, a15, a16, a17, a18, a19)) : wpX_relax post (f0, f1, f2, f3, a1, a2, a3, a4, a5, a6, a7, a8, a9, a10, a11, a12, a13, a14, a15, a16, a17, a18, a19) (nI 0) := by
  have hA : A < 7 := g.2.1.1
  have hB : B < 7 := g.2.1.2.1
  have ea : a6 (nI A).toNatClampNeg = zz_I x := zz_at hx
  have eb : a6 (nI B).toNatClampNeg = zz_I y := zz_at hy
  have es : a6 (nI A).toNatClampNeg + a3 (nI 0).toNatClampNeg = zz_I (x + w) := by rw [ea, gg_a3 g, zz_add]
  have hh : wX_relax_52 post (nI 0) (nI A) (nI B) 0 f0 f1 f2 f3 a1 a2 a3 a4 a5 a6 a7 a8 a9 a10 a11 a12 a13 a14 a15 a16 a17 a18 a19 := br_t rfl ⟨pk_in B 7 hB, pk_in B 7 hB, nm_r (e' := a6) (zz_self a6 _) ⟨rfl, h⟩⟩
  exact ⟨pk_in 0 20 (by omega), nm_r (gg_a1 g) ⟨pk_in 0 20 (by omega), nm_r (gg_a2 g) ⟨pk_in A 7 hA, zz_le 1048576 x (fun _ => hh) (fun z => ⟨pk_in A 7 hA, pk_in 0 20 (by omega), pk_in B 7 hB, zz_le y (x + w) (fun _ => hh) (fun z2 => absurd ⟨z, z2⟩ h1) eb es by' bw⟩) zz_far ea ⟨by omega, by omega⟩ bx⟩⟩⟩
end
end
section
theorem pp_Dq {c : Bool} {A B : Nat} {w : Int} {s j p : Nat} (z : Int) (hj : 1 ≤ j) (h : ¬ s = p ∨ ¬ pp_L c A B w s) : pp_D c A B w s j p = pp_T c A B w z s p := by
  unfold pp_D pp_T
  grind
theorem pp_Tl {c : Bool} {A B : Nat} {w : Int} {s : Nat} (z : Int) (h : pp_L c A B w s) : pp_T c A B w z s s = z := by
  unfold pp_T
  rw [if_pos rfl, if_pos h]
section
variable {c : Bool} {A B : Nat} {w : Int} {f0 f1 f2 f3 : Int32} {a1 a2 a3 a4 a5 a6 a7 a8 a9 a10 a11 a12 a13 a14 a15 a16 a17 a18 a19 : Nat → Int32}
/-- one round over the arcs -/
theorem gr_15 {post : St2 → Prop} {J : Int32 → Int32 → Int32 → Int32 → Int32 → (Nat → Int32) → (Nat → Int32) → (Nat → Int32) → (Nat → Int32) → (Nat → Int32) → (Nat → Int32) → (Nat → Int32) → (Nat → Int32) → (Nat → Int32) → (Nat → Int32) → (Nat → Int32) → (Nat → Int32) → (Nat → Int32) → (Nat → Int32) → (Nat → Int32) → (Nat → Int32) → (Nat → Int32) → (Nat → Int32) → (Nat → Int32) → Prop} {x2 : Int32} (g : gg_G c A B w f0 a1 a2 a3) {s j : Nat} (hj : j ≤ 99) {d : Nat → Int32} (hd : ∀ p, p < 7 → d p = zz_I (pp_D c A B w s j p))
    (H : ∀ d', (∀ p, p < 7 → d' p = zz_I (pp_D c A B w s (j + 1) p)) → J (x2 + 1) f0 f1 f2 f3 a1 a2 a3 a4 a5 d' a7 a8 a9 a10 a11 a12 a13 a14 a15 a16 a17 a18 a19) : ∃ n, wX_goByRounds_15 post J (nI s) x2 n 0 f0 f1 f2 f3 a1 a2 a3 a4 a5 d a7 a8 a9 a10 a11 a12 a13 a14 a15 a16 a17 a18 a19 := by
  obtain ⟨hA, hB, h1, h2⟩ := g.2.1
  refine zz_arc c (fun n i d => wX_goByRounds_15 post J (nI s) x2 n (nI i) f0 f1 f2 f3 a1 a2 a3 a4 a5 d a7 a8 a9 a10 a11 a12 a13 a14 a15 a16 a17 a18 a19) (fun d' => ∀ p, p < 7 → d' p = zz_I (pp_D c A B w s (j + 1) p)) d
    (fun n d' h => pk_le 20 20 (fun _ => nm_e (H d' h)) (fun z => absurd z (by omega)))
    (fun n i d' hi hi2 hw => pk_le 20 i (fun z => absurd z (by omega)) (fun _ => gg_has0 g hi hi2 (br_t rfl (nm_r (nI_1 i) hw))))
    (fun hc => ?_)
    (fun hc n hw => pk_le 20 0 (fun z => absurd z (by omega)) (fun _ => gg_has1 g hc (br_f (by decide) ?_)))
  · subst hc
    intro p hp
    rw [hd p hp, pp_Df s j, pp_Df s (j + 1)]
  · subst hc
    have bA := pp_Db (c := true) (A := A) (B := B) h1 h2 s j A (by omega)
    have bB := pp_Db (c := true) (A := A) (B := B) h1 h2 s j B (by omega)
    by_cases hz : pp_D true A B w s j A < 1048576 ∧ pp_D true A B w s j A + w < pp_D true A B w s j B
    · refine qq_relax1 g (hd A hA) (hd B hB) ⟨by omega, by omega⟩ ⟨by omega, by omega⟩ hz.1 hz.2 ⟨by omega, by omega⟩ (nm_r (nI_1 0) (hw _ (fun p hp => ?_)))
      rw [← pp_Dt h1 h2 (by omega) hz.1 hz.2 p]
      by_cases e : p = B
      · rw [if_pos e, e, pk_us]
      · rw [if_neg e, pk_un e]
        exact hd p hp
    · refine qq_relax0 g (hd A hA) (hd B hB) ⟨by omega, by omega⟩ ⟨by omega, by omega⟩ hz ⟨by omega, by omega⟩ (nm_r (nI_1 0) (hw _ (fun p hp => ?_)))
      rw [← pp_Dn h1 h2 (by omega) hz p]
      exact hd p hp
/-- the last round, and what it finds -/
theorem gr_51 {post : St2 → Prop} (g : gg_G c A B w f0 a1 a2 a3) {s : Nat} (hs : s < 7) {d : Nat → Int32} (hd : ∀ p, p < 7 → d p = zz_I (pp_D c A B w s 7 p)) (h7 : ∀ p, p < 7 → a7 p = 0)
    (H : ∀ F d' l, (∀ t, t < 7 → F (s * 7 + t) = zz_I (pp_T c A B w (-4000) s t)) → (∀ j, (j < s * 7 ∨ s * 7 + 7 ≤ j) → F j = a4 j) → post (f0, f1, f2, f3, a1, a2, a3, F, a5, d', l, a8, a9, a10, a11, a12, a13, a14, a15, a16, a17, a18, a19)) : ∃ n, wX_goByRounds_51 post (nI s) n 0 0 f0 f1 f2 f3 a1 a2 a3 a4 a5 d a7 a8 a9 a10 a11 a12 a13 a14 a15 a16 a17 a18 a19 := by
  obtain ⟨hA, hB, h1, h2⟩ := g.2.1
  refine zz_arc (σ := Int32 × (Nat → Int32)) c (fun n i u => wX_goByRounds_51 post (nI s) n u.1 (nI i) f0 f1 f2 f3 a1 a2 a3 a4 a5 u.2 a7 a8 a9 a10 a11 a12 a13 a14 a15 a16 a17 a18 a19)
    (fun u => u.1 = (if pp_L c A B w s then (1 : Int32) <<< (nI s &&& 31) else 0) ∧ ∀ p, p < 7 → u.2 p = zz_I (pp_D c A B w s 8 p)) (0, d)
    (fun n u h => pk_le 20 20 (fun _ => ?_) (fun z => absurd z (by omega)))
    (fun n i u hi hi2 hw => pk_le 20 i (fun z => absurd z (by omega)) (fun _ => gg_has0 g hi hi2 (br_t rfl (nm_r Int32.or_zero (nm_r (nI_1 i) hw)))))
    (fun hc => ?_)
    (fun hc n hw => pk_le 20 0 (fun z => absurd z (by omega)) (fun _ => gg_has1 g hc (br_f (by decide) ?_)))
  · by_cases hL : pp_L c A B w s
    · rw [h.1, if_pos hL]
      refine qq_low1 g hs (fun _ _ => hL.2.2.1) h7 (fun l hl => qq_write hs (R := fun t => pp_T c A B w (-4000) s t) (fun t ht => ?_) (fun F k1 k2 => H F u.2 l k1 k2))
      by_cases e : t = s
      · refine Or.inr ⟨?_, ?_⟩
        · rw [hl t ht, if_pos e]
          decide
        · subst e
          exact pp_Tl _ hL
      · refine Or.inl ⟨?_, ?_⟩
        · rw [hl t ht, if_neg e]
        · rw [h.2 t ht, pp_Dq (-4000) (by omega) (Or.inl (fun z => e z.symm))]
    · rw [h.1, if_neg hL]
      refine qq_low0 h7 (fun l hl => qq_write hs (R := fun t => pp_T c A B w (-4000) s t) (fun t ht => ?_) (fun F k1 k2 => H F u.2 l k1 k2))
      refine Or.inl ⟨hl t ht, ?_⟩
      rw [h.2 t ht, pp_Dq (-4000) (by omega) (Or.inr hL)]
  · subst hc
    refine ⟨(if_neg (fun z => Bool.noConfusion z.1)).symm, fun p hp => ?_⟩
    show d p = _
    rw [hd p hp, pp_Df s 7, pp_Df s 8]
  · subst hc
    have bA := pp_Db (c := true) (A := A) (B := B) h1 h2 s 7 A (by omega)
    have bB := pp_Db (c := true) (A := A) (B := B) h1 h2 s 7 B (by omega)
    have hw7 := pp_Dw (A := A) (B := B) (s := s) (j := 7) h1 h2 (by omega) (by omega)
    by_cases hz : pp_D true A B w s 7 A < 1048576 ∧ pp_D true A B w s 7 A + w < pp_D true A B w s 7 B
    · have hL := hw7.mp hz
      refine qq_relax1 g (hd A hA) (hd B hB) ⟨by omega, by omega⟩ ⟨by omega, by omega⟩ hz.1 hz.2 ⟨by omega, by omega⟩ (br_f (by decide) ⟨pk_in 0 20 (by omega), nm_r (e' := (1 : Int32) <<< (nI s &&& 31)) ?_ (nm_r (nI_1 0) (hw (_, _) ⟨(if_pos hL).symm, fun p hp => ?_⟩))⟩)
      · rw [gg_a2 g, hL.2.2.1]
        exact Int32.zero_or
      · show upd d B _ p = _
        rw [← pp_Dt h1 h2 (by omega) hz.1 hz.2 p]
        by_cases e : p = B
        · rw [if_pos e, e, pk_us]
        · rw [if_neg e, pk_un e]
          exact hd p hp
    · have hL : ¬ pp_L true A B w s := fun z => hz (hw7.mpr z)
      refine qq_relax0 g (hd A hA) (hd B hB) ⟨by omega, by omega⟩ ⟨by omega, by omega⟩ hz ⟨by omega, by omega⟩ (br_t rfl (nm_r Int32.or_zero (nm_r (nI_1 0) (hw (_, _) ⟨(if_neg hL).symm, fun p hp => ?_⟩))))
      show d p = _
      rw [← pp_Dn h1 h2 (by omega) hz p]
      exact hd p hp
/-- goByRounds -/
theorem gr_go {post : St2 → Prop} (g : gg_G c A B w f0 a1 a2 a3) {s : Nat} (hs : s < 7)
    (H : ∀ F d l, (∀ t, t < 7 → F (s * 7 + t) = zz_I (pp_T c A B w (-4000) s t)) → (∀ j, (j < s * 7 ∨ s * 7 + 7 ≤ j) → F j = a4 j) → post (f0, f1, f2, f3, a1, a2, a3, F, a5, d, l, a8, a9, a10, a11, a12, a13, a14, a15, a16, a17, a18, a19)) : wpX_goByRounds post (f0, f1, f2, f3, a1, a2, a3, a4, a5, a6, a7, a8, a9, a10, a11, a12, a13, a14, a15, a16, a17, a18, a19) (nI s) :=
  qq_startFrom hs (fun d l hd hl => pk_loop (fun n j d => wX_goByRounds_7 post (nI s) n (nI j) f0 f1 f2 f3 a1 a2 a3 a4 a5 d l a8 a9 a10 a11 a12 a13 a14 a15 a16 a17 a18 a19) (fun j d => ∀ p, p < 7 → d p = zz_I (pp_D c A B w s j p)) 7 0 d (by omega)
    (fun p hp => by rw [hd p hp, pp_D0])
    (fun n d h => pk_le 7 7 (fun _ => gr_51 g hs h hl H) (fun z => absurd z (by omega)))
    (fun n j d hj h hw => pk_le 7 j (fun z => absurd z (by omega)) (fun _ => gr_15 g (by omega) h (fun d' hd' => by rw [nI_1]; exact hw d' hd'))))
end
end
section
section
variable {c : Bool} {A B : Nat} {w : Int} {f0 f1 f2 f3 : Int32} {a1 a2 a3 a4 a5 a6 a7 a8 a9 a10 a11 a12 a13 a14 a15 a16 a17 a18 a19 : Nat → Int32}
/-! countTime -/
theorem gq_time {post : St2 → Prop} {v m : Nat} (hv : v < 7) (hm : m < 7) (h8 : a8 v = nI m) (h : post (f0, f1, f2, f3, a1, a2, a3, a4, a5, a6, a7, (upd a8 v (nI (m + 1))), a9, a10, a11, a12, a13, a14, a15, a16, a17, a18, a19)) : wpX_countTime post (f0, f1, f2, f3, a1, a2, a3, a4, a5, a6, a7, a8, a9, a10, a11, a12, a13, a14, a15, a16, a17, a18, a19) (nI v) := by
  have e : upd a8 (nI v).toNatClampNeg ((a8 (nI v).toNatClampNeg + 1).toInt8.toInt32) = upd a8 v (nI (m + 1)) := by
    rw [zz_cl (by omega), h8, nI_1, zz_by (m + 1) (by omega)]
  exact ⟨pk_in v 7 hv, pk_in v 7 hv, nm_r e ⟨pk_in v 7 hv, pk_le (m + 1) 7 (fun _ => h) (fun z => absurd z (by omega)) (by rw [zz_cl (by omega), pk_us]) rfl⟩⟩
theorem gq_time8 {post : St2 → Prop} (g : gg_G c A B w f0 a1 a2 a3) {v : Nat} (hv : v < 7) (hl : c = true → v = A → B = v) (h7 : ∀ q, q < 7 → a7 q = 0) (h8 : a8 v = nI 7) (H : ∀ l, (∀ q, q < 7 → l q = if q = v then 1 else 0) → post (f0, f1, f2, f3, a1, a2, a3, a4, a5, a6, l, (upd a8 v (nI 8)), a9, a10, a11, a12, a13, a14, a15, a16, a17, a18, a19)) : wpX_countTime post (f0, f1, f2, f3, a1, a2, a3, a4, a5, a6, a7, a8, a9, a10, a11, a12, a13, a14, a15, a16, a17, a18, a19) (nI v) := by
  have e : upd a8 (nI v).toNatClampNeg ((a8 (nI v).toNatClampNeg + 1).toInt8.toInt32) = upd a8 v (nI 8) := by
    rw [zz_cl (by omega), h8, nI_1, zz_by (7 + 1) (by omega)]
  exact ⟨pk_in v 7 hv, pk_in v 7 hv, nm_r e ⟨pk_in v 7 hv, pk_le 8 7 (fun z => absurd z (by omega)) (fun _ => qq_low1 g hv hl h7 (fun l hl' => H l hl')) (by rw [zz_cl (by omega), pk_us]) rfl⟩⟩
/-! the arcs of a point taken from the queue: nothing happens -/
theorem gq_idle {post : St2 → Prop} {J : Int32 → Int32 → Int32 → Int32 → Int32 → Int32 → (Nat → Int32) → (Nat → Int32) → (Nat → Int32) → (Nat → Int32) → (Nat → Int32) → (Nat → Int32) → (Nat → Int32) → (Nat → Int32) → (Nat → Int32) → (Nat → Int32) → (Nat → Int32) → (Nat → Int32) → (Nat → Int32) → (Nat → Int32) → (Nat → Int32) → (Nat → Int32) → (Nat → Int32) → (Nat → Int32) → (Nat → Int32) → Prop} {x1 x2 x3 : Int32} (g : gg_G c A B w f0 a1 a2 a3) {u : Nat} (hu : u < 7)
    (hi : c = true → A = u → (¬ a7 u = 0) ∨ (a7 u = 0 ∧ a7 B = 0 ∧ ∃ x y, a6 A = zz_I x ∧ a6 B = zz_I y ∧ zz_b x ∧ zz_b y ∧ zz_b (x + w) ∧ ¬ (x < 1048576 ∧ x + w < y)))
    (H : J x2 x3 f0 f1 f2 f3 a1 a2 a3 a4 a5 a6 a7 a8 a9 a10 a11 a12 a13 a14 a15 a16 a17 a18 a19) : ∃ n, wX_goByQueue_85 post J x1 x2 (nI u) n x3 0 f0 f1 f2 f3 a1 a2 a3 a4 a5 a6 a7 a8 a9 a10 a11 a12 a13 a14 a15 a16 a17 a18 a19 := by
  obtain ⟨hA, hB, h1, h2⟩ := g.2.1
  refine zz_arc (σ := Unit) c (fun n i _ => wX_goByQueue_85 post J x1 x2 (nI u) n x3 (nI i) f0 f1 f2 f3 a1 a2 a3 a4 a5 a6 a7 a8 a9 a10 a11 a12 a13 a14 a15 a16 a17 a18 a19) (fun _ => True) ()
    (fun n _ _ => pk_le 20 20 (fun _ => H) (fun z => absurd z (by omega)))
    (fun n i _ hi hi2 hw => pk_le 20 i (fun z => absurd z (by omega)) (fun _ => ⟨pk_in i 20 hi2, nm_e (gg_has0 g hi hi2 (br_t rfl (nm_r (nI_1 i) hw)))⟩))
    (fun _ => trivial)
    (fun hc n hw => pk_le 20 0 (fun z => absurd z (by omega)) (fun _ => ⟨pk_in 0 20 (by omega), nm_r (gg_a2 g) (gg_has1 g hc (br_f (by decide) ⟨pk_in 0 20 (by omega), pk_eq A u (fun e => ?_) (fun _ => nm_r (nI_1 0) (hw () trivial)) (gg_a1 g) rfl⟩))⟩))
  rcases hi hc e with h | ⟨k1, k2, x, y, hx, hy, bx, by', bw, hn⟩
  · exact ⟨pk_in u 7 hu, br_f (by rw [zz_cl (by omega)]; exact h) (nm_r (nI_1 0) (hw () trivial))⟩
  · exact ⟨pk_in u 7 hu, br_t (zz_at k1) ⟨pk_in B 7 hB, br_t (zz_at k2) (qq_relax0 g hx hy bx by' hn bw (br_t rfl (nm_r (nI_1 0) (hw () trivial))))⟩⟩
theorem gq_f7 : ∀ i, i < 8 → ((nI i + nI 0) &&& 7) = nI i := by decide +kernel
theorem gq_f8 : ∀ i, i < 8 → ((nI i + 1) &&& 7) = nI ((i + 1) % 8) := by decide +kernel
/-! the arc betters its end -/
theorem gq_act {post : St2 → Prop} {J : Int32 → Int32 → Int32 → Int32 → Int32 → Int32 → (Nat → Int32) → (Nat → Int32) → (Nat → Int32) → (Nat → Int32) → (Nat → Int32) → (Nat → Int32) → (Nat → Int32) → (Nat → Int32) → (Nat → Int32) → (Nat → Int32) → (Nat → Int32) → (Nat → Int32) → (Nat → Int32) → (Nat → Int32) → (Nat → Int32) → (Nat → Int32) → (Nat → Int32) → (Nat → Int32) → (Nat → Int32) → Prop} {x1 : Int32} (g : gg_G c A B w f0 a1 a2 a3) (hc : c = true) {x y : Int} {fi m : Nat} (h7 : ∀ q, q < 7 → a7 q = 0) (hx : a6 A = zz_I x) (hy : a6 B = zz_I y) (bx : zz_b x) (by' : zz_b y) (bw : zz_b (x + w))
    (k1 : x < 1048576) (k2 : x + w < y) (h10 : a10 B = 0) (hfi : fi < 8) (h8 : a8 B = nI m) (hm : m ≤ 7) (hl : m = 7 → A = B)
    (H : ∀ l, (m < 7 → l = a7) → (m = 7 → ∀ q, q < 7 → l q = if q = B then 1 else 0) → J (nI fi) (nI 1) f0 f1 f2 f3 a1 a2 a3 a4 a5 (upd a6 B (zz_I (x + w))) l (upd a8 B (nI (m + 1))) (upd a9 fi (nI B)) (upd a10 B 1) a11 a12 a13 a14 a15 a16 a17 a18 a19) :
    ∃ n, wX_goByQueue_85 post J x1 (nI fi) (nI A) n (nI 0) 0 f0 f1 f2 f3 a1 a2 a3 a4 a5 a6 a7 a8 a9 a10 a11 a12 a13 a14 a15 a16 a17 a18 a19 := by
  obtain ⟨hA, hB, h1, h2⟩ := g.2.1
  have e9 : upd a9 ((nI fi + nI 0) &&& 7).toNatClampNeg (nI B).toInt8.toInt32 = upd a9 fi (nI B) := by
    rw [gq_f7 fi hfi, zz_cl (by omega), zz_by B (by omega)]
  have e10 : upd a10 (nI B).toNatClampNeg 1 = upd a10 B 1 := by rw [zz_cl (by omega)]
  refine zz_arc (σ := Int32 × (Nat → Int32) × (Nat → Int32) × (Nat → Int32) × (Nat → Int32) × (Nat → Int32)) c
    (fun n i u => wX_goByQueue_85 post J x1 (nI fi) (nI A) n u.1 (nI i) f0 f1 f2 f3 a1 a2 a3 a4 a5 u.2.1 u.2.2.1 u.2.2.2.1 u.2.2.2.2.1 u.2.2.2.2.2 a11 a12 a13 a14 a15 a16 a17 a18 a19)
    (fun u => J (nI fi) u.1 f0 f1 f2 f3 a1 a2 a3 a4 a5 u.2.1 u.2.2.1 u.2.2.2.1 u.2.2.2.2.1 u.2.2.2.2.2 a11 a12 a13 a14 a15 a16 a17 a18 a19) (nI 0, a6, a7, a8, a9, a10)
    (fun n _ h => pk_le 20 20 (fun _ => h) (fun z => absurd z (by omega)))
    (fun n i _ hi hi2 hw => pk_le 20 i (fun z => absurd z (by omega)) (fun _ => ⟨pk_in i 20 hi2, nm_e (gg_has0 g hi hi2 (br_t rfl (nm_r (nI_1 i) hw)))⟩))
    (fun hf => absurd (hc.symm.trans hf) (by decide))
    (fun hc n hw => pk_le 20 0 (fun z => absurd z (by omega)) (fun _ => ⟨pk_in 0 20 (by omega), nm_r (gg_a2 g) (gg_has1 g hc (br_f (by decide) ⟨pk_in 0 20 (by omega), br_t (gg_a1 g) ⟨pk_in A 7 hA, br_t (zz_at (h7 A hA)) ⟨pk_in B 7 hB, br_t (zz_at (h7 B hB)) (qq_relax1 g hx hy bx by' k1 k2 bw (br_f (by decide) ⟨pk_in B 7 hB, br_t (zz_at h10) ⟨pk_in fi 8 hfi (gq_f7 fi hfi), nm_r e9 (nm_r (nI_1 0) ⟨pk_in B 7 hB, nm_r e10 ?_⟩)⟩⟩))⟩⟩⟩))⟩))
  by_cases hm7 : m < 7
  · exact gq_time hB hm7 h8 (nm_r (nI_1 0) (hw (_, _, _, _, _, _) (H a7 (fun _ => rfl) (fun e => absurd e (by omega)))))
  · have em : m = 7 := by omega
    subst em
    exact gq_time8 g hB (fun _ _ => rfl) h7 h8 (fun l hl' => nm_r (nI_1 0) (hw (_, _, _, _, _, _) (H l (fun e => absurd e (by omega)) (fun _ => hl'))))
/-! a point is taken; the queue is empty -/
theorem gq_pop {post : St2 → Prop} {x1 : Int32} {n fi v : Nat} (hfi : fi < 8) (hv : v < 7) (h9 : a9 fi = nI v)
    (H : ∃ m, wX_goByQueue_85 post (wX_goByQueue_52 post x1 n) x1 (nI ((fi + 1) % 8)) (nI v) m (nI 0) 0 f0 f1 f2 f3 a1 a2 a3 a4 a5 a6 a7 a8 a9 (upd a10 v 0) a11 a12 a13 a14 a15 a16 a17 a18 a19) : wX_goByQueue_52 post x1 (n + 1) (nI fi) (nI 1) f0 f1 f2 f3 a1 a2 a3 a4 a5 a6 a7 a8 a9 a10 a11 a12 a13 a14 a15 a16 a17 a18 a19 :=
  pk_le 1 0 (fun z => absurd z (by omega)) (fun _ => ⟨pk_in fi 8 hfi, nm_r (zz_at h9) (nm_r (gq_f8 fi hfi) (nm_r (pk_m1 0) ⟨pk_in v 7 hv, nm_r (e' := upd a10 v 0) (by rw [zz_cl (by omega)]) H⟩))⟩)
theorem gq_end {post : St2 → Prop} {n : Nat} {x2 : Int32} {s : Nat} (hs : s < 7) (hR : ∀ t, t < 7 → (a7 t = 0 ∧ a6 t = zz_I (pp_T c A B w (-4000) s t)) ∨ (¬ a7 t = 0 ∧ pp_T c A B w (-4000) s t = -4000))
    (H : ∀ F, (∀ t, t < 7 → F (s * 7 + t) = zz_I (pp_T c A B w (-4000) s t)) → (∀ j, (j < s * 7 ∨ s * 7 + 7 ≤ j) → F j = a4 j) → post (f0, f1, f2, f3, a1, a2, a3, F, a5, a6, a7, a8, a9, a10, a11, a12, a13, a14, a15, a16, a17, a18, a19)) : wX_goByQueue_52 post (nI s) (n + 1) x2 (nI 0) f0 f1 f2 f3 a1 a2 a3 a4 a5 a6 a7 a8 a9 a10 a11 a12 a13 a14 a15 a16 a17 a18 a19 :=
  pk_le 0 0 (fun _ => qq_write hs hR (fun F k1 k2 => H F k1 k2)) (fun z => absurd z (by omega))
end
section
variable {c : Bool} {A B : Nat} {w : Int} {f0 f1 f2 f3 : Int32} {a1 a2 a3 a4 a5 a6 a7 a8 a9 a10 a11 a12 a13 a14 a15 a16 a17 a18 a19 : Nat → Int32}
/-! a falling loop: eight times better, then low -/
theorem gq_fall {post : St2 → Prop} (g : gg_G c A B w f0 a1 a2 a3) (hL : pp_L c A B w A)
    (H : ∀ F d l t q r, (∀ t, t < 7 → F (A * 7 + t) = zz_I (pp_T c A B w (-4000) A t)) → (∀ j, (j < A * 7 ∨ A * 7 + 7 ≤ j) → F j = a4 j) → post (f0, f1, f2, f3, a1, a2, a3, F, a5, d, l, t, q, r, a11, a12, a13, a14, a15, a16, a17, a18, a19)) :
    ∀ k j, j + k = 8 → ∀ d l t q r : Nat → Int32, q (j % 8) = nI A → t A = nI j → d A = zz_I (pp_m w j) → (∀ p, p < 7 → ¬ p = A → d p = zz_I 1048576) → (j ≤ 7 → ∀ p, p < 7 → l p = 0) → (j = 8 → ∀ p, p < 7 → l p = if p = A then 1 else 0) →
      wX_goByQueue_52 post (nI A) (k + 2) (nI (j % 8)) (nI 1) f0 f1 f2 f3 a1 a2 a3 a4 a5 d l t q r a11 a12 a13 a14 a15 a16 a17 a18 a19 := by
  obtain ⟨hA, hB, h1, h2⟩ := g.2.1
  obtain ⟨hc, _, hBA, hw0⟩ := id hL
  intro k
  induction k with
  | zero =>
    intro j hj d l t q r k1 k2 k3 k4 k5 k6
    have ej : j = 8 := by omega
    refine gq_pop (n := 1) (Nat.mod_lt _ (by omega)) hA k1 (gq_idle g hA (fun _ _ => Or.inl ?_) (gq_end (n := 0) hA (fun p hp => ?_) (fun F m1 m2 => H F _ _ _ _ _ m1 m2)))
    · rw [k6 ej A hA, if_pos rfl]
      decide
    · by_cases e : p = A
      · refine Or.inr ⟨?_, ?_⟩
        · rw [k6 ej p hp, if_pos e]
          decide
        · rw [e]
          exact pp_Tl _ hL
      · refine Or.inl ⟨by rw [k6 ej p hp, if_neg e], ?_⟩
        rw [k4 p hp e]
        unfold pp_T
        rw [if_neg (fun z => e z.symm), if_neg (fun z => e (by rw [← z.2.2, hBA]))]
  | succ k ih =>
    intro j hj d l t q r k1 k2 k3 k4 k5 k6
    have bj := pp_mb h1 h2 j
    have hl := k5 (by omega)
    refine gq_pop (n := k + 2) (Nat.mod_lt _ (by omega)) hA k1 (gq_act g hc (x := pp_m w j) (y := pp_m w j) (m := j) hl k3 (by rw [hBA]; exact k3) ⟨by omega, by omega⟩ ⟨by omega, by omega⟩ ⟨by omega, by omega⟩ (by omega) (by omega) ?_ (Nat.mod_lt _ (by omega)) (by rw [hBA]; exact k2) (by omega) (fun _ => hBA.symm) (fun l' m1 m2 => ?_))
    · rw [hBA, pk_us]
    · have ef : (j % 8 + 1) % 8 = (j + 1) % 8 := by omega
      rw [ef, hBA]
      rw [hBA] at m2
      refine ih (j + 1) (by omega) _ _ _ _ _ pk_us pk_us pk_us (fun p hp e => ?_) (fun e p hp => ?_) (fun e => m2 (by omega))
      · rw [pk_un e]
        exact k4 p hp e
      · rw [m1 (by omega)]
        exact hl p hp
/-- goByQueue behind its two first loops -/
theorem gq_main {post : St2 → Prop} (g : gg_G c A B w f0 a1 a2 a3) {s : Nat} (hs : s < 7) (h6 : ∀ p, p < 7 → a6 p = zz_I (if p = s then 0 else 1048576)) (h7 : ∀ p, p < 7 → a7 p = 0) (h8 : ∀ p, p < 7 → a8 p = nI 0) (h9 : a9 0 = nI s) (h10 : ∀ p, p < 7 → ¬ p = s → a10 p = 0)
    (H : ∀ F d l t q r, (∀ t, t < 7 → F (s * 7 + t) = zz_I (pp_T c A B w (-4000) s t)) → (∀ j, (j < s * 7 ∨ s * 7 + 7 ≤ j) → F j = a4 j) → post (f0, f1, f2, f3, a1, a2, a3, F, a5, d, l, t, q, r, a11, a12, a13, a14, a15, a16, a17, a18, a19)) :
    ∃ n, wX_goByQueue_52 post (nI s) n 0 1 f0 f1 f2 f3 a1 a2 a3 a4 a5 a6 a7 a8 a9 a10 a11 a12 a13 a14 a15 a16 a17 a18 a19 := by
  obtain ⟨hA, hB, h1, h2⟩ := g.2.1
  by_cases hL : pp_L c A B w s
  · obtain ⟨hc, e1, e2, hw0⟩ := id hL
    subst e1
    refine ⟨10, gq_fall g hL H 8 0 (by omega) a6 a7 a8 a9 a10 h9 (h8 A hA) ?_ (fun p hp e => ?_) (fun _ => h7) (fun e => absurd e (by omega))⟩
    · rw [h6 A hA, if_pos rfl]
      rfl
    · rw [h6 p hp, if_neg e]
  · by_cases hE : c = true ∧ A = s ∧ ¬ B = s
    · obtain ⟨hc, e1, e2⟩ := hE
      subst e1
      refine ⟨3, gq_pop (n := 2) (fi := 0) (by omega) hA h9 (gq_act g hc (x := 0) (y := 1048576) (m := 0) (fi := 1) h7 (by rw [h6 A hA, if_pos rfl]) (by rw [h6 B hB, if_neg e2]) ⟨by omega, by omega⟩ ⟨by omega, by omega⟩ ⟨by omega, by omega⟩ (by omega) (by omega) ?_ (by omega) (h8 B hB) (by omega) (fun z => absurd z (by omega)) (fun l m1 m2 => ?_))⟩
      · rw [pk_un e2]
        exact h10 B hB e2
      · have el := m1 (by omega)
        subst el
        refine gq_pop (n := 1) (fi := 1) (by omega) hB pk_us (gq_idle g hB (fun _ z => absurd z.symm e2) (gq_end (n := 0) hA (fun t ht => Or.inl ⟨h7 t ht, ?_⟩) (fun F m1 m2 => H F _ _ _ _ _ m1 m2)))
        by_cases e : t = B
        · rw [e, pk_us]
          unfold pp_T
          rw [if_neg (fun z => e2 z.symm), if_pos ⟨hc, rfl, rfl⟩, Int.zero_add]
        · rw [pk_un e, h6 t ht]
          unfold pp_T
          by_cases e' : t = A
          · rw [if_pos e', if_pos e'.symm, if_neg hL]
          · rw [if_neg e', if_neg (fun z => e' z.symm), if_neg (fun z => e z.2.2.symm)]
    · refine ⟨2, gq_pop (n := 1) (fi := 0) (by omega) hs h9 (gq_idle g hs (fun hc e => ?_) (gq_end (n := 0) hs (fun t ht => Or.inl ⟨h7 t ht, ?_⟩) (fun F m1 m2 => H F _ _ _ _ _ m1 m2)))⟩
      · have eB : B = s := by
          by_cases e' : B = s
          · exact e'
          · exact absurd ⟨hc, e, e'⟩ hE
        have hw0 : 0 ≤ w := by
          by_cases e' : w < 0
          · exact absurd ⟨hc, e, eB, e'⟩ hL
          · omega
        refine Or.inr ⟨h7 s hs, by rw [eB]; exact h7 s hs, 0, 0, by rw [h6 A hA, if_pos e], by rw [h6 B hB, if_pos eB], ⟨by omega, by omega⟩, ⟨by omega, by omega⟩, ⟨by omega, by omega⟩, by omega⟩
      · rw [h6 t ht]
        unfold pp_T
        by_cases e' : t = s
        · rw [if_pos e', if_pos e'.symm, if_neg hL]
        · rw [if_neg e', if_neg (fun z => e' z.symm), if_neg (fun z => hE ⟨z.1, z.2.1, fun y => e' (by rw [← y, z.2.2])⟩)]
/-- goByQueue -/
theorem gq_go {post : St2 → Prop} (g : gg_G c A B w f0 a1 a2 a3) {s : Nat} (hs : s < 7)
    (H : ∀ F d l t q r, (∀ t, t < 7 → F (s * 7 + t) = zz_I (pp_T c A B w (-4000) s t)) → (∀ j, (j < s * 7 ∨ s * 7 + 7 ≤ j) → F j = a4 j) → post (f0, f1, f2, f3, a1, a2, a3, F, a5, d, l, t, q, r, a11, a12, a13, a14, a15, a16, a17, a18, a19)) : wpX_goByQueue post (f0, f1, f2, f3, a1, a2, a3, a4, a5, a6, a7, a8, a9, a10, a11, a12, a13, a14, a15, a16, a17, a18, a19) (nI s) :=
  qq_startFrom hs (fun d l hd hl => pk_loop (σ := (Nat → Int32) × (Nat → Int32)) (fun n i u => wX_goByQueue_7 post (nI s) f0 f1 f2 f3 n (nI i) a1 a2 a3 a4 a5 d l u.1 a9 u.2 a11 a12 a13 a14 a15 a16 a17 a18 a19)
    (fun i u => (∀ p, p < i → u.1 p = nI 0) ∧ (∀ p, p < i → u.2 p = 0)) 7 0 (a8, a10) (by omega) ⟨lt_0, lt_0⟩
    (fun n u h => pk_le 7 7 (fun _ => nm_r (e' := upd a9 0 (nI s)) (by rw [zz_by s (by omega)]) ⟨pk_in s 7 hs, nm_r (e' := upd u.2 s 1) (by rw [zz_cl (by omega)])
      (gq_main g hs hd hl h.1 pk_us (fun p hp e => by rw [pk_un e]; exact h.2 p hp) H)⟩) (fun z => absurd z (by omega)))
    (fun n i u hi h hw => pk_le 7 i (fun z => absurd z (by omega)) (fun _ => ⟨pk_in i 7 hi, nm_e ⟨pk_in i 7 hi, nm_e (nm_r (nI_1 i) (hw (_, _) ⟨zz_fill (zz_cl (by omega)) h.1 rfl, zz_fill (zz_cl (by omega)) h.2 rfl⟩))⟩⟩)))
end
end
section
/-- prices after j rounds -/
def pp_P (c : Bool) (A B : Nat) (w : Int) (j p : Nat) : Int := if c = true ∧ ¬ A = B ∧ p = B ∧ w < 0 ∧ 1 ≤ j then w else 0
theorem pp_Pb {c : Bool} {A B : Nat} {w : Int} (h1 : -20 ≤ w) (h2 : w ≤ 20) (j p : Nat) : -20 ≤ pp_P c A B w j p ∧ pp_P c A B w j p ≤ 0 := by
  unfold pp_P
  split <;> omega
theorem pp_Pt {A B : Nat} {w : Int} {j : Nat} (hL : ¬ pp_L true A B w A) (h : pp_P true A B w j A + w < pp_P true A B w j B) (p : Nat) : (if p = B then pp_P true A B w j A + w else pp_P true A B w j p) = pp_P true A B w (j + 1) p := by
  unfold pp_P pp_L at *
  grind
theorem pp_Pn {A B : Nat} {w : Int} {j : Nat} (h : pp_P true A B w j B ≤ pp_P true A B w j A + w) (p : Nat) : pp_P true A B w j p = pp_P true A B w (j + 1) p := by
  unfold pp_P at *
  grind
theorem pp_PL {A B : Nat} {w : Int} {j : Nat} (hL : pp_L true A B w A) (p : Nat) : pp_P true A B w j p = pp_P true A B w (j + 1) p := by
  unfold pp_P pp_L at *
  grind
theorem pp_P0 {c : Bool} {A B : Nat} {w : Int} (p : Nat) : pp_P c A B w 0 p = 0 := by
  unfold pp_P
  exact if_neg (fun z => absurd z.2.2.2.2 (by omega))
theorem pp_Pf {A B : Nat} {w : Int} (j p : Nat) : pp_P false A B w j p = 0 := by
  unfold pp_P
  exact if_neg (fun z => Bool.noConfusion z.1)
/-- what findGroups leaves -/
def gw_GP (c : Bool) (A B : Nat) (w : Int) (a14 a15 : Nat → Int32) : Prop := (∀ p, p < 7 → a14 p = nI p) ∧ (∀ p, p < 7 → a15 p = if pp_L c A B w p then 1 else 0)
section
variable {c : Bool} {A B : Nat} {w : Int} {f0 f1 f2 f3 : Int32} {a1 a2 a3 a4 a5 a6 a7 a8 a9 a10 a11 a12 a13 a14 a15 a16 a17 a18 a19 : Nat → Int32}
/-! findGroups: rounds over the arcs inside groups -/
theorem fg_146 {post : St2 → Prop} {J : Int32 → (Nat → Int32) → (Nat → Int32) → (Nat → Int32) → (Nat → Int32) → (Nat → Int32) → (Nat → Int32) → (Nat → Int32) → (Nat → Int32) → (Nat → Int32) → (Nat → Int32) → (Nat → Int32) → (Nat → Int32) → (Nat → Int32) → (Nat → Int32) → (Nat → Int32) → (Nat → Int32) → (Nat → Int32) → (Nat → Int32) → (Nat → Int32) → Prop} (g : gg_G c A B w f0 a1 a2 a3) {j : Nat} (hj : j ≤ 7) (h14 : ∀ p, p < 7 → a14 p = nI p) (h11 : ∀ p, p < 7 → a11 p = zz_I (if pp_L c A B w p then pp_m w j else 0)) (h15 : ∀ p, p < 7 → a15 p = 0)
    (H : ∀ x11 x15, (∀ p, p < 7 → x11 p = zz_I (if pp_L c A B w p then pp_m w (j + 1) else 0)) → (∀ p, p < 7 → x15 p = if pp_L c A B w p ∧ j = 7 then 1 else 0) → J (nI j + 1) a1 a2 a3 a4 a5 a6 a7 a8 a9 a10 x11 a12 a13 a14 x15 a16 a17 a18 a19) : ∃ n, wX_findGroups_146 post J (nI j) f0 f1 f2 f3 n 0 a1 a2 a3 a4 a5 a6 a7 a8 a9 a10 a11 a12 a13 a14 a15 a16 a17 a18 a19 := by
  obtain ⟨hA, hB, h1, h2⟩ := g.2.1
  have bj := pp_mb h1 h2 j
  have keep : (∀ p, ¬ pp_L c A B w p) → (∀ p, p < 7 → a11 p = zz_I (if pp_L c A B w p then pp_m w (j + 1) else 0)) ∧ (∀ p, p < 7 → a15 p = if pp_L c A B w p ∧ j = 7 then 1 else 0) := by
    intro hn
    refine ⟨fun p hp => ?_, fun p hp => ?_⟩
    · rw [h11 p hp, if_neg (hn p), if_neg (hn p)]
    · rw [h15 p hp, if_neg (fun z => hn p z.1)]
  have e1 : a11 (a1 (nI 0).toNatClampNeg).toNatClampNeg = zz_I (if pp_L c A B w A then pp_m w j else 0) := by rw [gg_a1 g]; exact zz_at (h11 A hA)
  have e3 : a11 (a1 (nI 0).toNatClampNeg).toNatClampNeg + a3 (nI 0).toNatClampNeg = zz_I ((if pp_L c A B w A then pp_m w j else 0) + w) := by rw [e1, gg_a3 g, zz_add]
  have eg : a14 (a2 (nI 0).toNatClampNeg).toNatClampNeg = nI B := by rw [gg_a2 g]; exact zz_at (h14 B hB)
  have eb : a15 (a14 (a2 (nI 0).toNatClampNeg).toNatClampNeg).toNatClampNeg = 0 := by rw [eg]; exact zz_at (h15 B hB)
  have by1 : -1000 ≤ (if pp_L c A B w A then pp_m w j else 0) ∧ (if pp_L c A B w A then pp_m w j else 0) ≤ 1000 := by split <;> omega
  refine zz_arc (σ := (Nat → Int32) × (Nat → Int32)) c (fun n i u => wX_findGroups_146 post J (nI j) f0 f1 f2 f3 n (nI i) a1 a2 a3 a4 a5 a6 a7 a8 a9 a10 u.1 a12 a13 a14 u.2 a16 a17 a18 a19)
    (fun u => (∀ p, p < 7 → u.1 p = zz_I (if pp_L c A B w p then pp_m w (j + 1) else 0)) ∧ (∀ p, p < 7 → u.2 p = if pp_L c A B w p ∧ j = 7 then 1 else 0)) (a11, a15)
    (fun n u h => pk_le 20 20 (fun _ => nm_e (H u.1 u.2 h.1 h.2)) (fun z => absurd z (by omega)))
    (fun n i u hi hi2 hw => pk_le 20 i (fun z => absurd z (by omega)) (fun _ => gg_has0 g hi hi2 (br_t rfl (br_t rfl (nm_r (nI_1 i) hw)))))
    (fun hc => keep (fun p z => absurd (hc.symm.trans z.1) (by decide)))
    (fun hc n hw => pk_le 20 0 (fun z => absurd z (by omega)) (fun _ => gg_has1 g hc (br_f (by decide) ⟨pk_in 0 20 (by omega), pk_in A 7 hA (gg_a1 g), pk_in 0 20 (by omega), pk_in B 7 hB (gg_a2 g), pk_eq A B (fun e => ?_) (fun e => br_t rfl (nm_r (nI_1 0) (hw (_, _) (keep (fun p z => e (z.2.1.trans z.2.2.1.symm)))))) (by rw [gg_a1 g]; exact zz_at (h14 A hA)) eg⟩)))
  have e2 : a11 (a2 (nI 0).toNatClampNeg).toNatClampNeg = zz_I (if pp_L c A B w A then pp_m w j else 0) := by subst e; rw [gg_a2 g]; exact zz_at (h11 A hA)
  refine br_f (by decide) ⟨pk_in 0 20 (by omega), pk_in A 7 hA (gg_a1 g), pk_in 0 20 (by omega), pk_in 0 20 (by omega), pk_in B 7 hB (gg_a2 g), zz_le (if pp_L c A B w A then pp_m w j else 0) ((if pp_L c A B w A then pp_m w j else 0) + w) (fun z => nm_r (nI_1 0) (hw (_, _) (keep (fun p y => absurd y.2.2.2 (by omega)))))
    (fun z => ⟨pk_in 0 20 (by omega), pk_in 0 20 (by omega), pk_in A 7 hA (gg_a1 g), pk_in 0 20 (by omega), pk_in B 7 hB (gg_a2 g), nm_r (e' := upd a11 B (zz_I (pp_m w (j + 1)))) ?_ ⟨pk_in 0 20 (by omega), pk_in B 7 hB (gg_a2 g), pk_in 0 20 (by omega), pk_in B 7 hB (gg_a2 g), pk_in B 7 hB eg, br_t eb (pk_eq j 7 (fun e7 => ⟨pk_in B 7 hB eg, nm_r (e' := upd a15 B 1) ?_ (nm_r (nI_1 0) (hw (_, _) ⟨?_, ?_⟩))⟩) (fun e7 => ⟨pk_in B 7 hB eg, nm_r (e' := upd a15 B 0) ?_ (nm_r (nI_1 0) (hw (_, _) ⟨?_, ?_⟩))⟩))⟩⟩) e2 e3 ⟨by omega, by omega⟩ ⟨by omega, by omega⟩⟩
  all_goals have hL : pp_L c A B w A := ⟨hc, rfl, e.symm, by omega⟩
  all_goals have hLB : pp_L c A B w B := ⟨hc, e, rfl, by omega⟩
  · rw [e3, gg_a2 g, zz_cl (by omega), if_pos hL]
    rfl
  · rw [eg, zz_cl (by omega)]
  · intro p hp
    show upd a11 B _ p = _
    by_cases ep : p = B
    · rw [ep, pk_us, if_pos hLB]
    · rw [pk_un ep, h11 p hp, if_neg (fun y => ep y.2.2.1.symm), if_neg (fun y => ep y.2.2.1.symm)]
  · intro p hp
    show upd a15 B _ p = _
    by_cases ep : p = B
    · rw [ep, pk_us, if_pos ⟨hLB, e7⟩]
    · rw [pk_un ep, h15 p hp, if_neg (fun y => ep y.1.2.2.1.symm)]
  · rw [eg, zz_cl (by omega)]
  · intro p hp
    show upd a11 B _ p = _
    by_cases ep : p = B
    · rw [ep, pk_us, if_pos hLB]
    · rw [pk_un ep, h11 p hp, if_neg (fun y => ep y.2.2.1.symm), if_neg (fun y => ep y.2.2.1.symm)]
  · intro p hp
    show upd a15 B _ p = _
    rw [if_neg (fun y => e7 y.2)]
    by_cases ep : p = B
    · rw [ep, pk_us]
    · rw [pk_un ep, h15 p hp]
theorem fg_138 {post : St2 → Prop} (g : gg_G c A B w f0 a1 a2 a3) (h14 : ∀ p, p < 7 → a14 p = nI p) (h11 : ∀ p, p < 7 → a11 p = zz_I 0) (h15 : ∀ p, p < 7 → a15 p = 0)
    (H : ∀ x11 x15, (∀ p, p < 7 → x15 p = if pp_L c A B w p then 1 else 0) → post (f0, f1, f2, f3, a1, a2, a3, a4, a5, a6, a7, a8, a9, a10, x11, a12, a13, a14, x15, a16, a17, a18, a19)) : ∃ n, wX_findGroups_138 post f0 f1 f2 f3 n 0 a1 a2 a3 a4 a5 a6 a7 a8 a9 a10 a11 a12 a13 a14 a15 a16 a17 a18 a19 :=
  pk_loop (σ := (Nat → Int32) × (Nat → Int32)) (fun n j u => wX_findGroups_138 post f0 f1 f2 f3 n (nI j) a1 a2 a3 a4 a5 a6 a7 a8 a9 a10 u.1 a12 a13 a14 u.2 a16 a17 a18 a19)
    (fun j u => (∀ p, p < 7 → u.1 p = zz_I (if pp_L c A B w p then pp_m w j else 0)) ∧ (∀ p, p < 7 → u.2 p = if pp_L c A B w p ∧ j = 8 then 1 else 0)) 8 0 (a11, a15) (by omega)
    ⟨fun p hp => by rw [show (a11, a15).1 p = a11 p from rfl, h11 p hp]; split <;> rfl, fun p hp => by rw [show (a11, a15).2 p = a15 p from rfl, h15 p hp, if_neg (fun z => absurd z.2 (by omega))]⟩
    (fun n u h => pk_lt 7 8 (fun _ => H u.1 u.2 (fun p hp => by rw [h.2 p hp]; simp)) (fun z => absurd z (by omega)))
    (fun n j u hj h hw => pk_lt 7 j (fun z => absurd z (by omega)) (fun _ => fg_146 g (by omega) h14 h.1 (fun p hp => by rw [h.2 p hp, if_neg (fun z => absurd z.2 (by omega))]) (fun x11 x15 k1 k2 => by
      rw [nI_1]
      refine hw (x11, x15) ⟨k1, fun p hp => ?_⟩
      show x15 p = _
      rw [k2 p hp]
      simp)))
/-! findGroups: no two points reach each other -/
theorem fg_54 {post : St2 → Prop} {J : Int32 → (Nat → Int32) → (Nat → Int32) → (Nat → Int32) → (Nat → Int32) → (Nat → Int32) → (Nat → Int32) → (Nat → Int32) → (Nat → Int32) → (Nat → Int32) → (Nat → Int32) → (Nat → Int32) → (Nat → Int32) → (Nat → Int32) → (Nat → Int32) → (Nat → Int32) → (Nat → Int32) → (Nat → Int32) → (Nat → Int32) → (Nat → Int32) → Prop} (g : gg_G c A B w f0 a1 a2 a3) {p : Nat} (hp : p < 7) {r : Int32} (hr : ∀ q, q < 7 → (((r >>> (nI q &&& 31)) &&& 1 = 0) ↔ ¬ (q = p ∨ (c = true ∧ p = A ∧ q = B)))) (h14 : ∀ p, p < 7 → a14 p = nI p) (H : J (nI p + 1) a1 a2 a3 a4 a5 a6 a7 a8 a9 a10 a11 a12 a13 a14 a15 a16 a17 a18 a19) :
    ∃ n, wX_findGroups_54 post J (nI p) r f0 f1 f2 f3 n 0 a1 a2 a3 a4 a5 a6 a7 a8 a9 a10 a11 a12 a13 a14 a15 a16 a17 a18 a19 := by
  have e : upd a14 (nI p).toNatClampNeg (vp_nar .byte (a14 (nI p).toNatClampNeg)) = a14 := by
    rw [zz_cl (by omega), h14 p hp, zz_vb p (by omega)]
    exact zz_selfE (h14 p hp)
  refine pk_loop (σ := Unit) (fun n i _ => wX_findGroups_54 post J (nI p) r f0 f1 f2 f3 n (nI i) a1 a2 a3 a4 a5 a6 a7 a8 a9 a10 a11 a12 a13 a14 a15 a16 a17 a18 a19) (fun _ _ => True) p 0 () (by omega) trivial
    (fun n _ _ => pk_le p p (fun _ => nm_e H) (fun z => absurd z (by omega)))
    (fun n q _ hq _ hw => pk_le p q (fun z => absurd z (by omega)) (fun _ => ?_))
  have X : wX_findGroups_86 post J (wX_findGroups_54 post J (nI p) r f0 f1 f2 f3 n) (nI p) r (nI q) 0 f0 f1 f2 f3 a1 a2 a3 a4 a5 a6 a7 a8 a9 a10 a11 a12 a13 a14 a15 a16 a17 a18 a19 := br_t rfl ⟨pk_in p 7 hp, pk_in p 7 hp, nm_r e (nm_r (nI_1 q) (hw () trivial))⟩
  refine ek_if (hr q (by omega)) (fun _ => X) (fun z => qq_spread g (p := q) (by omega) (fun r' hr' => ek_if (hr' p hp) (fun _ => X) (fun z' => ?_)))
  rcases Classical.not_not.mp z with t | t
  · exact absurd t (by omega)
  · rcases Classical.not_not.mp z' with t' | t'
    · exact absurd t' (by omega)
    · exact absurd (t'.2.1.trans t.2.1.symm) (by omega)
theorem fg_38 {post : St2 → Prop} (g : gg_G c A B w f0 a1 a2 a3) (h14 : ∀ p, p < 7 → a14 p = nI p) (h11 : ∀ p, p < 7 → a11 p = zz_I 0) (h15 : ∀ p, p < 7 → a15 p = 0)
    (H : ∀ x11 x15, (∀ p, p < 7 → x15 p = if pp_L c A B w p then 1 else 0) → post (f0, f1, f2, f3, a1, a2, a3, a4, a5, a6, a7, a8, a9, a10, x11, a12, a13, a14, x15, a16, a17, a18, a19)) : ∃ n, wX_findGroups_38 post f0 f1 f2 f3 n 0 a1 a2 a3 a4 a5 a6 a7 a8 a9 a10 a11 a12 a13 a14 a15 a16 a17 a18 a19 :=
  pk_loop (σ := Unit) (fun n p _ => wX_findGroups_38 post f0 f1 f2 f3 n (nI p) a1 a2 a3 a4 a5 a6 a7 a8 a9 a10 a11 a12 a13 a14 a15 a16 a17 a18 a19) (fun _ _ => True) 7 0 () (by omega) trivial
    (fun n _ _ => pk_le 7 7 (fun _ => fg_138 g h14 h11 h15 H) (fun z => absurd z (by omega)))
    (fun n p _ hp _ hw => pk_le 7 p (fun z => absurd z (by omega)) (fun _ => qq_spread g hp (fun r hr => fg_54 g hp hr h14 (by rw [nI_1]; exact hw () trivial))))
theorem fg_go {post : St2 → Prop} (g : gg_G c A B w f0 a1 a2 a3) (H : ∀ x11 x14 x15, gw_GP c A B w x14 x15 → post (f0, f1, f2, f3, a1, a2, a3, a4, a5, a6, a7, a8, a9, a10, x11, a12, a13, x14, x15, a16, a17, a18, a19)) : wpX_findGroups post (f0, f1, f2, f3, a1, a2, a3, a4, a5, a6, a7, a8, a9, a10, a11, a12, a13, a14, a15, a16, a17, a18, a19) :=
  pk_loop (σ := (Nat → Int32) × (Nat → Int32) × (Nat → Int32)) (fun n p u => wX_findGroups_2 post f0 f1 f2 f3 n (nI p) a1 a2 a3 a4 a5 a6 a7 a8 a9 a10 u.1 a12 a13 u.2.1 u.2.2 a16 a17 a18 a19)
    (fun i u => (∀ p, p < i → u.1 p = zz_I 0) ∧ (∀ p, p < i → u.2.1 p = nI p) ∧ (∀ p, p < i → u.2.2 p = 0)) 7 0 (a11, a14, a15) (by omega) ⟨lt_0, lt_0, lt_0⟩
    (fun n u h => pk_le 7 7 (fun _ => fg_38 g h.2.1 h.1 h.2.2 (fun x11 x15 k => H x11 u.2.1 x15 ⟨h.2.1, k⟩)) (fun z => absurd z (by omega)))
    (fun n i u hi h hw => pk_le 7 i (fun z => absurd z (by omega)) (fun _ => ⟨pk_in i 7 hi, nm_e ⟨pk_in i 7 hi, nm_e ⟨pk_in i 7 hi, nm_e (nm_r (nI_1 i) (hw (_, _, _) ⟨zz_fill (zz_cl (by omega)) h.1 zz_0, zz_fill (zz_cl (by omega)) h.2.1 (zz_by i (by omega)), zz_fill (zz_cl (by omega)) h.2.2 rfl⟩))⟩⟩⟩))
/-! isGood -/
theorem gw_good1 {post : Int32 → Prop} (k : gw_GP c A B w a14 a15) {p : Nat} (hp : p < 7) (hn : ¬ pp_L c A B w p) (h : post 1) {x : Int32} (hx : x = nI p) : wpX_isGood post (f0, f1, f2, f3, a1, a2, a3, a4, a5, a6, a7, a8, a9, a10, a11, a12, a13, a14, a15, a16, a17, a18, a19) x := by
  subst hx
  have e : a14 (nI p).toNatClampNeg = nI p := zz_at (k.1 p hp)
  exact ⟨pk_in p 7 hp, pk_in p 7 hp e, br_t (by rw [e, zz_cl (by omega), k.2 p hp, if_neg hn]) h⟩
theorem gw_good0 {post : Int32 → Prop} (k : gw_GP c A B w a14 a15) {p : Nat} (hp : p < 7) (hn : pp_L c A B w p) (h : post 0) {x : Int32} (hx : x = nI p) : wpX_isGood post (f0, f1, f2, f3, a1, a2, a3, a4, a5, a6, a7, a8, a9, a10, a11, a12, a13, a14, a15, a16, a17, a18, a19) x := by
  subst hx
  have e : a14 (nI p).toNatClampNeg = nI p := zz_at (k.1 p hp)
  exact ⟨pk_in p 7 hp, pk_in p 7 hp e, br_f (by rw [e, zz_cl (by omega), k.2 p hp, if_pos hn]; decide) h⟩
/-! findPrices -/
theorem fp_31 {post : St2 → Prop} {J : Int32 → (Nat → Int32) → (Nat → Int32) → (Nat → Int32) → (Nat → Int32) → (Nat → Int32) → (Nat → Int32) → (Nat → Int32) → (Nat → Int32) → (Nat → Int32) → (Nat → Int32) → (Nat → Int32) → (Nat → Int32) → (Nat → Int32) → (Nat → Int32) → (Nat → Int32) → (Nat → Int32) → (Nat → Int32) → (Nat → Int32) → (Nat → Int32) → Prop} {x1 : Int32} (g : gg_G c A B w f0 a1 a2 a3) (k : gw_GP c A B w a14 a15) {j : Nat} (h11 : ∀ p, p < 7 → a11 p = zz_I (pp_P c A B w j p))
    (H : ∀ x11, (∀ p, p < 7 → x11 p = zz_I (pp_P c A B w (j + 1) p)) → J (x1 + 1) a1 a2 a3 a4 a5 a6 a7 a8 a9 a10 x11 a12 a13 a14 a15 a16 a17 a18 a19) : ∃ n, wX_findPrices_31 post J x1 f0 f1 f2 f3 n 0 a1 a2 a3 a4 a5 a6 a7 a8 a9 a10 a11 a12 a13 a14 a15 a16 a17 a18 a19 := by
  obtain ⟨hA, hB, h1, h2⟩ := g.2.1
  have bA := pp_Pb (c := c) (A := A) (B := B) h1 h2 j A
  have bB := pp_Pb (c := c) (A := A) (B := B) h1 h2 j B
  have e1 : a11 (a1 (nI 0).toNatClampNeg).toNatClampNeg + a3 (nI 0).toNatClampNeg = zz_I (pp_P c A B w j A + w) := by rw [gg_a1 g, gg_a3 g, zz_at (h11 A hA), zz_add]
  have e2 : a11 (a2 (nI 0).toNatClampNeg).toNatClampNeg = zz_I (pp_P c A B w j B) := by rw [gg_a2 g]; exact zz_at (h11 B hB)
  refine zz_arc c (fun n i u => wX_findPrices_31 post J x1 f0 f1 f2 f3 n (nI i) a1 a2 a3 a4 a5 a6 a7 a8 a9 a10 u a12 a13 a14 a15 a16 a17 a18 a19) (fun u => ∀ p, p < 7 → u p = zz_I (pp_P c A B w (j + 1) p)) a11
    (fun n u h => pk_le 20 20 (fun _ => nm_e (H u h)) (fun z => absurd z (by omega)))
    (fun n i u hi hi2 hw => pk_le 20 i (fun z => absurd z (by omega)) (fun _ => gg_has0 g hi hi2 (br_t rfl (br_t rfl (nm_r (nI_1 i) hw)))))
    (fun hc => ?_)
    (fun hc n hw => pk_le 20 0 (fun z => absurd z (by omega)) (fun _ => gg_has1 g hc (br_f (by decide) ⟨pk_in 0 20 (by omega), ?_⟩)))
  · subst hc
    intro p hp
    rw [h11 p hp, pp_Pf, pp_Pf]
  · subst hc
    by_cases hL : pp_L true A B w A
    · exact gw_good0 k hA hL (br_t rfl (br_t rfl (nm_r (nI_1 0) (hw _ (fun p hp => by rw [h11 p hp, pp_PL hL]))))) (gg_a1 g)
    · have hL' : ¬ pp_L true A B w B := fun z => hL ⟨rfl, rfl, z.2.1.symm, z.2.2.2⟩
      refine gw_good1 k hA hL (br_f (by decide) ⟨pk_in 0 20 (by omega), gw_good1 k hB hL' (br_f (by decide) (br_f (by decide) ⟨pk_in 0 20 (by omega), pk_in A 7 hA (gg_a1 g), pk_in 0 20 (by omega), pk_in 0 20 (by omega), pk_in B 7 hB (gg_a2 g), zz_le (pp_P true A B w j B) (pp_P true A B w j A + w) (fun z => nm_r (nI_1 0) (hw _ (fun p hp => by rw [h11 p hp, pp_Pn z])))
        (fun z => ⟨pk_in 0 20 (by omega), pk_in 0 20 (by omega), pk_in A 7 hA (gg_a1 g), pk_in 0 20 (by omega), pk_in B 7 hB (gg_a2 g), nm_r (e' := upd a11 B (zz_I (pp_P true A B w j A + w))) ?_ (nm_r (nI_1 0) (hw _ (fun p hp => ?_)))⟩) e2 e1 ⟨by omega, by omega⟩ ⟨by omega, by omega⟩⟩)) (gg_a2 g)⟩) (gg_a1 g)
      · rw [e1, gg_a2 g, zz_cl (by omega)]
      · rw [← pp_Pt hL z p]
        by_cases e : p = B
        · rw [if_pos e, e, pk_us]
        · rw [if_neg e, pk_un e]
          exact h11 p hp
theorem fp_go {post : St2 → Prop} (g : gg_G c A B w f0 a1 a2 a3) (k : gw_GP c A B w a14 a15) (H : ∀ x11, (∀ p, p < 7 → x11 p = zz_I (pp_P c A B w 7 p)) → post (f0, f1, f2, f3, a1, a2, a3, a4, a5, a6, a7, a8, a9, a10, x11, a12, a13, a14, a15, a16, a17, a18, a19)) : wpX_findPrices post (f0, f1, f2, f3, a1, a2, a3, a4, a5, a6, a7, a8, a9, a10, a11, a12, a13, a14, a15, a16, a17, a18, a19) :=
  pk_loop (fun n p u => wX_findPrices_2 post f0 f1 f2 f3 n (nI p) a1 a2 a3 a4 a5 a6 a7 a8 a9 a10 u a12 a13 a14 a15 a16 a17 a18 a19) (fun i u => ∀ p, p < i → u p = zz_I 0) 7 0 a11 (by omega) lt_0
    (fun n u h => pk_le 7 7 (fun _ => pk_loop (fun n j u => wX_findPrices_23 post f0 f1 f2 f3 n (nI j) a1 a2 a3 a4 a5 a6 a7 a8 a9 a10 u a12 a13 a14 a15 a16 a17 a18 a19) (fun j u => ∀ p, p < 7 → u p = zz_I (pp_P c A B w j p)) 7 0 u (by omega) (fun p hp => by rw [h p hp, pp_P0])
      (fun n u h => pk_le 7 7 (fun _ => H u h) (fun z => absurd z (by omega)))
      (fun n j u hj h hw => pk_le 7 j (fun z => absurd z (by omega)) (fun _ => fp_31 g k h (fun x11 k1 => by rw [nI_1]; exact hw x11 k1)))) (fun z => absurd z (by omega)))
    (fun n i u hi h hw => pk_le 7 i (fun z => absurd z (by omega)) (fun _ => ⟨pk_in i 7 hi, nm_e (nm_r (nI_1 i) (hw _ (zz_fill (zz_cl (by omega)) h zz_0)))⟩))
end
end
section
section
variable {c : Bool} {A B : Nat} {w : Int} {f0 f1 f2 f3 : Int32} {a1 a2 a3 a4 a5 a6 a7 a8 a9 a10 a11 a12 a13 a14 a15 a16 a17 a18 a19 : Nat → Int32}
/-! the heap, of one point at most -/
theorem gw_set {post : St2 → Prop} {i p : Nat} (hi : i < 8) (hp : p < 7) (h : post (f0, f1, f2, f3, a1, a2, a3, a4, a5, a6, a7, a8, a9, a10, a11, (upd a12 i (nI p)), (upd a13 p (nI i)), a14, a15, a16, a17, a18, a19)) : wpX_setPlace post (f0, f1, f2, f3, a1, a2, a3, a4, a5, a6, a7, a8, a9, a10, a11, a12, a13, a14, a15, a16, a17, a18, a19) (nI i) (nI p) :=
  ⟨pk_in i 8 hi, nm_r (e' := upd a12 i (nI p)) (by rw [zz_cl (by omega), zz_by p (by omega)]) ⟨pk_in p 7 hp, nm_r (e' := upd a13 p (nI i)) (by rw [zz_cl (by omega), zz_by i (by omega)]) h⟩⟩
theorem gw_take {post : Int32 → St2 → Prop} {v : Nat} (hv : v < 7) (h12 : a12 0 = nI v) (h : post (nI v) (f0, (nI 0), f2, f3, a1, a2, a3, a4, a5, a6, a7, a8, a9, a10, a11, a12, (upd a13 v (-1)), a14, a15, a16, a17, a18, a19)) : wpX_takeNearest post (f0, (nI 1), f2, f3, a1, a2, a3, a4, a5, a6, a7, a8, a9, a10, a11, a12, a13, a14, a15, a16, a17, a18, a19) :=
  nm_r h12 (nm_r (nI_pred 0) ⟨pk_in 0 8 (by omega), nm_r (zz_at h12) (pk_le 0 0 (fun _ => ⟨1, br_t rfl (pk_le 0 0 (fun _ => ⟨pk_in v 7 hv, nm_r (e' := upd a13 v (-1)) (by rw [zz_cl (by omega)]) h⟩) (fun z => absurd z (by omega)))⟩) (fun z => absurd z (by omega)))⟩)
theorem gw_rise0 {post : St2 → Prop} {x : Int32} (hx : x = nI 0) {v : Nat} (hv : v < 7) (h12 : a12 0 = nI v) (h : post (f0, f1, f2, f3, a1, a2, a3, a4, a5, a6, a7, a8, a9, a10, a11, (upd a12 0 (nI v)), (upd a13 v (nI 0)), a14, a15, a16, a17, a18, a19)) : wpX_rise post (f0, f1, f2, f3, a1, a2, a3, a4, a5, a6, a7, a8, a9, a10, a11, a12, a13, a14, a15, a16, a17, a18, a19) x := by
  subst hx
  exact ⟨pk_in 0 8 (by omega), nm_r (zz_at h12) ⟨1, pk_le 0 0 (fun _ => gw_set (i := 0) (by omega) hv h) (fun z => absurd z (by omega))⟩⟩
theorem gw_near1 {post : St2 → Prop} {u v : Nat} (hu : u < 7) (hv : v < 7) {x y q1 q2 : Int} (h6u : a6 u = zz_I x) (h6v : a6 v = zz_I y) (h11u : a11 u = zz_I q1) (h11v : a11 v = zz_I q2) (hz : x + w + q1 - q2 < y) (bz : zz_b (x + w + q1 - q2)) (by' : zz_b y) (h13 : a13 v = -1) {x1 x2 : Int32} (e1 : x1 = nI v) (e2 : x2 = zz_I w)
    (H : ∀ x12 x13, x12 0 = nI v → (∀ q, ¬ q = v → x13 q = a13 q) → post (f0, (nI 1), f2, f3, a1, a2, a3, a4, a5, (upd a6 v (zz_I (x + w + q1 - q2))), a7, a8, a9, a10, a11, x12, x13, a14, a15, a16, a17, a18, a19)) : wpX_nearer post (f0, (nI 0), f2, f3, a1, a2, a3, a4, a5, a6, a7, a8, a9, a10, a11, a12, a13, a14, a15, a16, a17, a18, a19) (nI u) x1 x2 := by
  subst e1 e2
  refine ⟨pk_in u 7 hu, pk_in u 7 hu, pk_in v 7 hv, nm_r (e' := zz_I (x + w + q1 - q2)) (by rw [zz_at h6u, zz_at h11u, zz_at h11v, zz_add, zz_add, zz_sub]) ⟨pk_in v 7 hv, zz_le y (x + w + q1 - q2) (fun z => absurd z (by omega)) (fun _ => ⟨pk_in v 7 hv, nm_r (e' := upd a6 v (zz_I (x + w + q1 - q2))) (by rw [zz_cl (by omega)]) ⟨pk_in v 7 hv, br_f ?_ (gw_set (i := 0) (by omega) hv (nm_r (nI_1 0) ⟨pk_in v 7 hv, gw_rise0 ?_ hv pk_us (H _ _ pk_us (fun q hq => ?_))⟩))⟩⟩) (zz_at h6v) rfl by' bz⟩⟩
  · rw [zz_at h13]
    decide
  · rw [zz_cl (by omega), pk_us]
  · rw [pk_un hq, pk_un hq]
theorem gw_near0 {post : St2 → Prop} {u v : Nat} (hu : u < 7) (hv : v < 7) {x y q1 q2 : Int} (h6u : a6 u = zz_I x) (h6v : a6 v = zz_I y) (h11u : a11 u = zz_I q1) (h11v : a11 v = zz_I q2) (hz : y ≤ x + w + q1 - q2) (bz : zz_b (x + w + q1 - q2)) (by' : zz_b y) {x1 x2 : Int32} (e1 : x1 = nI v) (e2 : x2 = zz_I w)
    (h : post (f0, f1, f2, f3, a1, a2, a3, a4, a5, a6, a7, a8, a9, a10, a11, a12, a13, a14, a15, a16, a17, a18, a19)) : wpX_nearer post (f0, f1, f2, f3, a1, a2, a3, a4, a5, a6, a7, a8, a9, a10, a11, a12, a13, a14, a15, a16, a17, a18, a19) (nI u) x1 x2 := by
  subst e1 e2
  exact ⟨pk_in u 7 hu, pk_in u 7 hu, pk_in v 7 hv, nm_r (e' := zz_I (x + w + q1 - q2)) (by rw [zz_at h6u, zz_at h11u, zz_at h11v, zz_add, zz_add, zz_sub]) ⟨pk_in v 7 hv, zz_le y (x + w + q1 - q2) (fun _ => h) (fun z => absurd z (by omega)) (zz_at h6v) rfl by' bz⟩⟩
/-! the arcs of a point taken from the heap -/
theorem gw_idle {post : St2 → Prop} {J : Int32 → Int32 → Int32 → Int32 → (Nat → Int32) → (Nat → Int32) → (Nat → Int32) → (Nat → Int32) → (Nat → Int32) → (Nat → Int32) → (Nat → Int32) → (Nat → Int32) → (Nat → Int32) → (Nat → Int32) → (Nat → Int32) → (Nat → Int32) → (Nat → Int32) → (Nat → Int32) → (Nat → Int32) → (Nat → Int32) → (Nat → Int32) → (Nat → Int32) → (Nat → Int32) → Prop} {x1 : Int32} (g : gg_G c A B w f0 a1 a2 a3) (k : gw_GP c A B w a14 a15) {u : Nat} (hu : u < 7)
    (hi : c = true → A = u → B = u ∧ 0 ≤ w ∧ ∃ x q, a6 u = zz_I x ∧ a11 u = zz_I q ∧ -3000000 ≤ x ∧ x ≤ 3000000 ∧ -3000000 ≤ q ∧ q ≤ 3000000)
    (H : J f0 f1 f2 f3 a1 a2 a3 a4 a5 a6 a7 a8 a9 a10 a11 a12 a13 a14 a15 a16 a17 a18 a19) : ∃ n, wX_goWithPrices_113 post J x1 (nI u) n 0 f0 f1 f2 f3 a1 a2 a3 a4 a5 a6 a7 a8 a9 a10 a11 a12 a13 a14 a15 a16 a17 a18 a19 := by
  obtain ⟨hA, hB, h1, h2⟩ := g.2.1
  refine zz_arc (σ := Unit) c (fun n i _ => wX_goWithPrices_113 post J x1 (nI u) n (nI i) f0 f1 f2 f3 a1 a2 a3 a4 a5 a6 a7 a8 a9 a10 a11 a12 a13 a14 a15 a16 a17 a18 a19) (fun _ => True) ()
    (fun n _ _ => pk_le 20 20 (fun _ => H) (fun z => absurd z (by omega)))
    (fun n i _ hi hi2 hw => pk_le 20 i (fun z => absurd z (by omega)) (fun _ => gg_has0 g hi hi2 (br_t rfl (nm_r (nI_1 i) hw))))
    (fun _ => trivial)
    (fun hc n hw => pk_le 20 0 (fun z => absurd z (by omega)) (fun _ => gg_has1 g hc (br_f (by decide) ⟨pk_in 0 20 (by omega), pk_eq A u (fun e => ⟨pk_in 0 20 (by omega), ?_⟩) (fun _ => nm_r (nI_1 0) (hw () trivial)) (gg_a1 g) rfl⟩)))
  obtain ⟨eB, hw0, x, q, h6, h11, b1, b2, b3, b4⟩ := hi hc e
  subst eB
  exact gw_good1 k hu (fun z => absurd z.2.2.2 (by omega)) (br_f (by decide) ⟨pk_in 0 20 (by omega), pk_in 0 20 (by omega), gw_near0 (w := w) hu hu h6 h6 h11 h11 (by omega) ⟨by omega, by omega⟩ ⟨by omega, by omega⟩ (gg_a2 g) (gg_a3 g) (nm_r (nI_1 0) (hw () trivial))⟩) (gg_a2 g)
theorem gw_act {post : St2 → Prop} {J : Int32 → Int32 → Int32 → Int32 → (Nat → Int32) → (Nat → Int32) → (Nat → Int32) → (Nat → Int32) → (Nat → Int32) → (Nat → Int32) → (Nat → Int32) → (Nat → Int32) → (Nat → Int32) → (Nat → Int32) → (Nat → Int32) → (Nat → Int32) → (Nat → Int32) → (Nat → Int32) → (Nat → Int32) → (Nat → Int32) → (Nat → Int32) → (Nat → Int32) → (Nat → Int32) → Prop} {x1 : Int32} (g : gg_G c A B w f0 a1 a2 a3) (k : gw_GP c A B w a14 a15) (hc : c = true) (hAB : ¬ A = B) {x y q1 q2 : Int} (h6A : a6 A = zz_I x) (h6B : a6 B = zz_I y) (h11A : a11 A = zz_I q1) (h11B : a11 B = zz_I q2) (hz : x + w + q1 - q2 < y) (bz : zz_b (x + w + q1 - q2)) (by' : zz_b y) (h13 : a13 B = -1)
    (H : ∀ x12 x13, x12 0 = nI B → J f0 (nI 1) f2 f3 a1 a2 a3 a4 a5 (upd a6 B (zz_I (x + w + q1 - q2))) a7 a8 a9 a10 a11 x12 x13 a14 a15 a16 a17 a18 a19) : ∃ n, wX_goWithPrices_113 post J x1 (nI A) n 0 f0 (nI 0) f2 f3 a1 a2 a3 a4 a5 a6 a7 a8 a9 a10 a11 a12 a13 a14 a15 a16 a17 a18 a19 := by
  obtain ⟨hA, hB, h1, h2⟩ := g.2.1
  exact zz_arc (σ := Int32 × (Nat → Int32) × (Nat → Int32) × (Nat → Int32)) c (fun n i u => wX_goWithPrices_113 post J x1 (nI A) n (nI i) f0 u.1 f2 f3 a1 a2 a3 a4 a5 u.2.1 a7 a8 a9 a10 a11 u.2.2.1 u.2.2.2 a14 a15 a16 a17 a18 a19)
    (fun u => J f0 u.1 f2 f3 a1 a2 a3 a4 a5 u.2.1 a7 a8 a9 a10 a11 u.2.2.1 u.2.2.2 a14 a15 a16 a17 a18 a19) (nI 0, a6, a12, a13)
    (fun n _ h => pk_le 20 20 (fun _ => h) (fun z => absurd z (by omega)))
    (fun n i _ hi hi2 hw => pk_le 20 i (fun z => absurd z (by omega)) (fun _ => gg_has0 g hi hi2 (br_t rfl (nm_r (nI_1 i) hw))))
    (fun hf => absurd (hc.symm.trans hf) (by decide))
    (fun hc n hw => pk_le 20 0 (fun z => absurd z (by omega)) (fun _ => gg_has1 g hc (br_f (by decide) ⟨pk_in 0 20 (by omega), br_t (gg_a1 g) ⟨pk_in 0 20 (by omega),
      gw_good1 k hB (fun z => hAB z.2.1) (br_f (by decide) ⟨pk_in 0 20 (by omega), pk_in 0 20 (by omega), gw_near1 (w := w) hA hB h6A h6B h11A h11B hz bz by' h13 (gg_a2 g) (gg_a3 g) (fun x12 x13 m1 _ => nm_r (nI_1 0) (hw (_, _, _, _) (H x12 x13 m1)))⟩) (gg_a2 g)⟩⟩)))
/-! the last loop: prices are taken off -/
theorem gw_187 {post : St2 → Prop} {s : Nat} (hs : s < 7) {E Q : Nat → Int} (h6 : ∀ p, p < 7 → a6 p = zz_I (E p)) (h11 : ∀ p, p < 7 → a11 p = zz_I (Q p)) (bE : ∀ p, p < 7 → -3000000 ≤ E p ∧ E p ≤ 3000000)
    (hR : ∀ t, t < 7 → (a7 t = 0 ∧ (if 1048576 ≤ E t then 1048576 else E t - Q s + Q t) = pp_T c A B w (-4000) s t) ∨ (¬ a7 t = 0 ∧ pp_T c A B w (-4000) s t = -4000))
    (H : ∀ F d, (∀ t, t < 7 → F (s * 7 + t) = zz_I (pp_T c A B w (-4000) s t)) → (∀ j, (j < s * 7 ∨ s * 7 + 7 ≤ j) → F j = a4 j) → post (f0, f1, f2, f3, a1, a2, a3, F, a5, d, a7, a8, a9, a10, a11, a12, a13, a14, a15, a16, a17, a18, a19)) : ∃ n, wX_goWithPrices_187 post (nI s) f0 f1 f2 f3 n 0 a1 a2 a3 a4 a5 a6 a7 a8 a9 a10 a11 a12 a13 a14 a15 a16 a17 a18 a19 := by
  refine pk_loop (fun n i d => wX_goWithPrices_187 post (nI s) f0 f1 f2 f3 n (nI i) a1 a2 a3 a4 a5 d a7 a8 a9 a10 a11 a12 a13 a14 a15 a16 a17 a18 a19) (fun i d => (∀ p, p < i → d p = zz_I (if 1048576 ≤ E p then 1048576 else E p - Q s + Q p)) ∧ (∀ p, i ≤ p → p < 7 → d p = zz_I (E p))) 7 0 a6 (by omega) ⟨lt_0, fun p _ hp => h6 p hp⟩
    (fun n d h => pk_le 7 7 (fun _ => qq_write hs (R := fun t => pp_T c A B w (-4000) s t) (fun t ht => ?_) (fun F k1 k2 => H F d k1 k2)) (fun z => absurd z (by omega)))
    (fun n i d hi h hw => pk_le 7 i (fun z => absurd z (by omega)) (fun _ => ⟨pk_in i 7 hi, ?_⟩))
  · rcases hR t ht with ⟨e1, e2⟩ | e
    · exact Or.inl ⟨e1, by rw [h.1 t ht, e2]⟩
    · exact Or.inr e
  · have b := bE i hi
    have e : d (nI i).toNatClampNeg = zz_I (E i) := zz_at (h.2 i (Nat.le_refl i) hi)
    refine zz_le 1048576 (E i) (fun z => ⟨pk_in i 7 hi, nm_e (nm_r (nI_1 i) (hw _ ⟨zz_fill (zz_cl (by omega)) h.1 (by rw [if_pos z]; exact zz_far), zz_keep (zz_cl (by omega)) h.2⟩))⟩)
      (fun z => ⟨pk_in i 7 hi, pk_in s 7 hs, pk_in i 7 hi, pk_in i 7 hi, nm_e (nm_r (nI_1 i) (hw _ ⟨zz_fill (zz_cl (by omega)) h.1 ?_, zz_keep (zz_cl (by omega)) h.2⟩))⟩) zz_far e
    rw [if_neg (by omega), e, zz_at (h11 s hs), zz_at (h11 i hi), zz_sub, zz_add]
theorem gw_97e {post : St2 → Prop} {x1 : Int32} {n : Nat} (H : ∃ m, wX_goWithPrices_187 post x1 f0 (nI 0) f2 f3 m 0 a1 a2 a3 a4 a5 a6 a7 a8 a9 a10 a11 a12 a13 a14 a15 a16 a17 a18 a19) : wX_goWithPrices_97 post x1 (n + 1) f0 (nI 0) f2 f3 a1 a2 a3 a4 a5 a6 a7 a8 a9 a10 a11 a12 a13 a14 a15 a16 a17 a18 a19 :=
  pk_le 0 0 (fun _ => H) (fun z => absurd z (by omega))
theorem gw_97s {post : St2 → Prop} {x1 : Int32} {n v : Nat} (hv : v < 7) (h12 : a12 0 = nI v) (H : ∃ m, wX_goWithPrices_113 post (wX_goWithPrices_97 post x1 n) x1 (nI v) m 0 f0 (nI 0) f2 f3 a1 a2 a3 a4 a5 a6 a7 a8 a9 a10 a11 a12 (upd a13 v (-1)) a14 a15 a16 a17 a18 a19) : wX_goWithPrices_97 post x1 (n + 1) f0 (nI 1) f2 f3 a1 a2 a3 a4 a5 a6 a7 a8 a9 a10 a11 a12 a13 a14 a15 a16 a17 a18 a19 :=
  pk_le 1 0 (fun z => absurd z (by omega)) (fun _ => gw_take hv h12 H)
/-- the walk over the heap -/
theorem gw_97 {post : St2 → Prop} (g : gg_G c A B w f0 a1 a2 a3) (k : gw_GP c A B w a14 a15) {s : Nat} (hs : s < 7) (hL : ¬ pp_L c A B w s) (h11 : ∀ p, p < 7 → a11 p = zz_I (pp_P c A B w 7 p)) (h6 : ∀ p, p < 7 → a6 p = zz_I (if p = s then 0 else 1048576)) (h7 : ∀ p, p < 7 → a7 p = 0) (h12 : a12 0 = nI s) (h13 : ∀ q, q < 7 → ¬ q = s → a13 q = -1)
    (H : ∀ x1 F d x12 x13, (∀ t, t < 7 → F (s * 7 + t) = zz_I (pp_T c A B w (-4000) s t)) → (∀ j, (j < s * 7 ∨ s * 7 + 7 ≤ j) → F j = a4 j) → post (f0, x1, f2, f3, a1, a2, a3, F, a5, d, a7, a8, a9, a10, a11, x12, x13, a14, a15, a16, a17, a18, a19)) :
    ∃ n, wX_goWithPrices_97 post (nI s) n f0 (nI 1) f2 f3 a1 a2 a3 a4 a5 a6 a7 a8 a9 a10 a11 a12 a13 a14 a15 a16 a17 a18 a19 := by
  obtain ⟨hA, hB, h1, h2⟩ := g.2.1
  have bP : ∀ p, -20 ≤ pp_P c A B w 7 p ∧ pp_P c A B w 7 p ≤ 0 := fun p => pp_Pb h1 h2 7 p
  by_cases hE : c = true ∧ A = s ∧ ¬ B = s
  · obtain ⟨hc, e1, e2⟩ := hE
    subst e1
    have bA := bP A
    have bB := bP B
    have pA : pp_P c A B w 7 A = 0 := by
      unfold pp_P
      exact if_neg (fun z => e2 z.2.2.1.symm)
    refine ⟨3, gw_97s (n := 2) hA h12 (gw_act g k hc (fun z => e2 z.symm) (x := 0) (y := 1048576) (by rw [h6 A hA, if_pos rfl]) (by rw [h6 B hB, if_neg e2]) (h11 A hA) (h11 B hB) (by omega) ⟨by omega, by omega⟩ ⟨by omega, by omega⟩ (by rw [pk_un e2]; exact h13 B hB e2)
      (fun x12 x13 m1 => gw_97s (n := 1) hB m1 (gw_idle g k hB (fun _ z => absurd z.symm e2) (gw_97e (n := 0) (gw_187 hA (E := fun p => if p = B then 0 + w + pp_P c A B w 7 A - pp_P c A B w 7 B else if p = A then 0 else 1048576) (Q := pp_P c A B w 7) (fun p hp => ?_) h11 (fun p hp => ?_) (fun t ht => Or.inl ⟨h7 t ht, ?_⟩) (fun F d m1 m2 => H _ F d _ _ m1 m2))))))⟩
    · by_cases e : p = B
      · rw [e, pk_us, if_pos rfl]
      · rw [pk_un e, if_neg e, h6 p hp]
    · split
      · omega
      · split <;> omega
    · by_cases e : t = B
      · rw [if_pos e, if_neg (by omega), e]
        unfold pp_T
        rw [if_neg (fun z => e2 z.symm), if_pos ⟨hc, rfl, rfl⟩]
        omega
      · rw [if_neg e]
        unfold pp_T
        by_cases e' : t = A
        · rw [if_pos e', if_pos e'.symm, if_neg (by omega), if_neg hL, e']
          omega
        · rw [if_neg e', if_pos (by omega), if_neg (fun z => e' z.symm), if_neg (fun z => e z.2.2.symm)]
  · have hb := bP s
    refine ⟨2, gw_97s (n := 1) hs h12 (gw_idle g k hs (fun hc e => ?_) (gw_97e (n := 0) (gw_187 hs (E := fun p => if p = s then 0 else 1048576) (Q := pp_P c A B w 7) h6 h11 (fun p hp => ?_) (fun t ht => Or.inl ⟨h7 t ht, ?_⟩) (fun F d m1 m2 => H _ F d _ _ m1 m2))))⟩
    · have eB : B = s := by
        by_cases e' : B = s
        · exact e'
        · exact absurd ⟨hc, e, e'⟩ hE
      have hw0 : 0 ≤ w := by
        by_cases e' : w < 0
        · exact absurd ⟨hc, e, eB, e'⟩ hL
        · omega
      exact ⟨eB, hw0, 0, pp_P c A B w 7 s, by rw [h6 s hs, if_pos rfl], h11 s hs, by omega, by omega, by omega, by omega⟩
    · split <;> omega
    · unfold pp_T
      by_cases e' : t = s
      · rw [if_pos e', if_pos e'.symm, if_neg (by omega), if_neg hL, e']
        omega
      · rw [if_neg e', if_pos (by omega), if_neg (fun z => e' z.symm), if_neg (fun z => hE ⟨z.1, z.2.1, fun y => e' (by rw [← y, z.2.2])⟩)]
/-- goWithPrices -/
theorem gw_go {post : St2 → Prop} (g : gg_G c A B w f0 a1 a2 a3) (k : gw_GP c A B w a14 a15) {s : Nat} (hs : s < 7) (h11 : ∀ p, p < 7 → a11 p = zz_I (pp_P c A B w 7 p))
    (H : ∀ x1 F d l x12 x13, (∀ t, t < 7 → F (s * 7 + t) = zz_I (pp_T c A B w (-4000) s t)) → (∀ j, (j < s * 7 ∨ s * 7 + 7 ≤ j) → F j = a4 j) → post (f0, x1, f2, f3, a1, a2, a3, F, a5, d, l, a8, a9, a10, a11, x12, x13, a14, a15, a16, a17, a18, a19)) : wpX_goWithPrices post (f0, f1, f2, f3, a1, a2, a3, a4, a5, a6, a7, a8, a9, a10, a11, a12, a13, a14, a15, a16, a17, a18, a19) (nI s) := by
  obtain ⟨hA, hB, h1, h2⟩ := g.2.1
  refine qq_startFrom hs (fun d l hd hl => qq_spread g hs (fun r hr => pk_loop (σ := Int32 × (Nat → Int32)) (fun n i u => wX_goWithPrices_18 post (nI s) r f0 f1 f2 f3 n u.1 (nI i) a1 a2 a3 a4 a5 d l a8 a9 a10 a11 a12 u.2 a14 a15 a16 a17 a18 a19)
    (fun i u => u.1 = (if pp_L c A B w s ∧ s < i then (1 : Int32) <<< (nI s &&& 31) else 0) ∧ ∀ q, q < i → u.2 q = -1) 7 0 (0, a13) (by omega) ⟨(if_neg (fun z => absurd z.2 (by omega))).symm, lt_0⟩
    (fun n u h => pk_le 7 7 (fun _ => ?_) (fun z => absurd z (by omega)))
    (fun n i u hi h hw => pk_le 7 i (fun z => absurd z (by omega)) (fun _ => ek_if (hr i hi) (fun z => ?_) (fun z => ?_)))))
  · by_cases hL : pp_L c A B w s
    · rw [h.1, if_pos ⟨hL, hs⟩]
      refine qq_low1 g hs (fun _ _ => hL.2.2.1) hl (fun l' hl' => gw_good0 k hs hL (br_t rfl ⟨1, gw_97e (n := 0) (gw_187 hs (E := fun p => if p = s then 0 else 1048576) (Q := pp_P c A B w 7) hd h11 (fun p hp => ?_) (fun t ht => ?_) (fun F d m1 m2 => H _ F d _ _ _ m1 m2))⟩) rfl)
      · split <;> omega
      · by_cases e : t = s
        · refine Or.inr ⟨?_, ?_⟩
          · rw [hl' t ht, if_pos e]
            decide
          · rw [e]
            exact pp_Tl _ hL
        · refine Or.inl ⟨by rw [hl' t ht, if_neg e], ?_⟩
          unfold pp_T
          rw [if_neg e, if_pos (by omega), if_neg (fun z => e z.symm), if_neg (fun z => e (by rw [← z.2.2, hL.2.2.1]))]
    · rw [h.1, if_neg (fun z => hL z.1)]
      exact qq_low0 hl (fun l' hl' => gw_good1 k hs hL (br_f (by decide) (gw_set (i := 0) (by omega) hs (gw_97 g k hs hL h11 hd hl' pk_us (fun q hq e => by rw [pk_un e]; exact h.2 q hq) (fun x1 F d x12 x13 m1 m2 => H x1 F d l' x12 x13 m1 m2)))) rfl)
  · refine nm_r (e' := u.1) Int32.or_zero ⟨pk_in i 7 hi, nm_e (nm_r (nI_1 i) (hw (_, _) ⟨?_, zz_fill (zz_cl (by omega)) h.2 rfl⟩))⟩
    show u.1 = _
    rw [h.1]
    have hne : ¬ i = s := fun t => z (Or.inl t)
    by_cases hL : pp_L c A B w s ∧ s < i
    · rw [if_pos hL, if_pos ⟨hL.1, by omega⟩]
    · rw [if_neg hL, if_neg (fun t => hL ⟨t.1, by omega⟩)]
  · have z' := Classical.not_not.mp z
    by_cases hLi : pp_L c A B w i
    · have eis : i = s := by
        rcases z' with t | t
        · exact t
        · exact hLi.2.1.symm.trans t.2.1.symm
      subst eis
      refine gw_good0 k hi hLi (br_t rfl (nm_r (e' := (1 : Int32) <<< (nI i &&& 31)) ?_ ⟨pk_in i 7 hi, nm_e (nm_r (nI_1 i) (hw (_, _) ⟨?_, zz_fill (zz_cl (by omega)) h.2 rfl⟩))⟩)) rfl
      · rw [h.1, if_neg (fun t => absurd t.2 (by omega))]
        exact Int32.zero_or
      · exact (if_pos ⟨hLi, by omega⟩).symm
    · refine gw_good1 k hi hLi (br_f (by decide) (nm_r (e' := u.1) Int32.or_zero ⟨pk_in i 7 hi, nm_e (nm_r (nI_1 i) (hw (_, _) ⟨?_, zz_fill (zz_cl (by omega)) h.2 rfl⟩))⟩)) rfl
      show u.1 = _
      rw [h.1]
      by_cases hL : pp_L c A B w s ∧ s < i
      · rw [if_pos hL, if_pos ⟨hL.1, by omega⟩]
      · rw [if_neg hL, if_neg (fun t => ?_)]
        by_cases e : s = i
        · exact hLi (e ▸ t.1)
        · exact hL ⟨t.1, by omega⟩
end
end
section
/-! tables of all pairs: plain laws -/
def tb_P (c : Bool) (A B : Nat) (w z : Int) (T : Nat → Int32) : Prop := ∀ j, j < 49 → T j = zz_I (pp_T c A B w z (j / 7) (j % 7))
def tb_s (x y : Int) : Int := if 1048576 ≤ x ∨ 1048576 ≤ y then 1048576 else x + y
theorem tb_at {c : Bool} {A B : Nat} {w z : Int} {T : Nat → Int32} (h : tb_P c A B w z T) {s t : Nat} (hs : s < 7) (ht : t < 7) : T (s * 7 + t) = zz_I (pp_T c A B w z s t) := by
  rw [h (s * 7 + t) (by omega), show (s * 7 + t) / 7 = s by omega, show (s * 7 + t) % 7 = t by omega]
theorem tb_b {c : Bool} {A B : Nat} {w z : Int} (h1 : -20 ≤ w) (h2 : w ≤ 20) (hz : -1000000 ≤ z) (hz2 : z ≤ 1000000) (s t : Nat) : -1000000 ≤ pp_T c A B w z s t ∧ pp_T c A B w z s t ≤ 1048576 := by
  unfold pp_T
  split
  · split <;> omega
  · split <;> omega
theorem tb_mid1 {c : Bool} {A B : Nat} {w z : Int} {x : Nat} (hL : pp_L c A B w x) (hz : z ≤ 1000) : tb_s (pp_T c A B w z x x) (pp_T c A B w z x x) = 2 * z := by
  rw [pp_Tl z hL]
  unfold tb_s
  rw [if_neg (by omega)]
  omega
theorem tb_mid0 {c : Bool} {A B : Nat} {w z : Int} {x y m : Nat} (h1 : -20 ≤ w) (h2 : w ≤ 20) (hz : w < 0 → z < 0) (h : ¬ (pp_L c A B w x ∧ x = y ∧ m = x)) : pp_T c A B w z x y ≤ tb_s (pp_T c A B w z x m) (pp_T c A B w z m y) := by
  unfold tb_s pp_T pp_L at *
  grind
theorem tb_way {c : Bool} {A B : Nat} {w z : Int} {x y m : Nat} (h1 : -20 ≤ w) (h2 : w ≤ 20) (hz : w < 0 → z < 0) : tb_s (pp_T c A B w z x m) (pp_T c A B w z m y) = if m = x ∨ m = y then pp_T c A B w (2 * z) x y else 1048576 := by
  unfold tb_s pp_T pp_L
  grind
theorem tb_other {c : Bool} {A B : Nat} {w z y : Int} {s t : Nat} (h : ¬ (s = t ∧ pp_L c A B w s)) : pp_T c A B w z s t = pp_T c A B w y s t := by
  unfold pp_T
  grind
theorem tb_put {c : Bool} {A B : Nat} {w z y : Int} {T : Nat → Int32} {k s : Nat} (hk : k = s * 7 + s) (hs : s < 7) (hL : pp_L c A B w s) (h : tb_P c A B w z T) : tb_P c A B w y (upd T k (zz_I y)) := by
  intro j hj
  by_cases e : j = k
  · rw [e, pk_us, hk, show (s * 7 + s) / 7 = s by omega, show (s * 7 + s) % 7 = s by omega, pp_Tl y hL]
  · rw [pk_un e, h j hj]
    refine congrArg zz_I (tb_other (fun z => e ?_))
    have e1 : A = s := hL.2.1
    have e2 : A = j / 7 := z.2.2.1
    omega
section
variable {c : Bool} {A B : Nat} {w : Int} {f0 f1 f2 f3 : Int32} {a1 a2 a3 a4 a5 a6 a7 a8 a9 a10 a11 a12 a13 a14 a15 a16 a17 a18 a19 : Nat → Int32}
/-- sumOf -/
theorem tb_sum {post : Int32 → Prop} {x y : Int} {p0 p1 : Int32} (e0 : p0 = zz_I x) (e1 : p1 = zz_I y) (bx : -1000000 ≤ x ∧ x ≤ 1048576) (by' : -1000000 ≤ y ∧ y ≤ 1048576) (bs : x < 1048576 → y < 1048576 → -200000 ≤ x + y) (h : post (zz_I (tb_s x y))) : wpX_sumOf post () p0 p1 := by
  have far : (1048576 ≤ x ∨ 1048576 ≤ y) → post 1048576 := by
    intro z
    unfold tb_s at h
    rw [if_pos z] at h
    rw [zz_far]
    exact h
  refine zz_le 1048576 x (fun z => far (Or.inl z)) (fun z => zz_lt y 1048576 (fun z2 => nm_r (e' := zz_I (x + y)) (by rw [e0, e1, zz_add]) (zz_le (-200000) (x + y) (fun _ => ?_) (fun z3 => absurd (bs z z2) (by omega)) (by decide) rfl)) (fun z2 => far (Or.inr z2)) e1 zz_far) zz_far e0
  unfold tb_s at h
  rw [if_neg (by omega)] at h
  exact h
/-- fillTable -/
theorem tb_fill {post : St2 → Prop} (g : gg_G c A B w f0 a1 a2 a3) (H : ∀ T, tb_P c A B w w T → post (f0, f1, f2, f3, a1, a2, a3, a4, a5, a6, a7, a8, a9, a10, a11, a12, a13, a14, a15, a16, T, a18, a19)) : wpX_fillTable post (f0, f1, f2, f3, a1, a2, a3, a4, a5, a6, a7, a8, a9, a10, a11, a12, a13, a14, a15, a16, a17, a18, a19) := by
  obtain ⟨hA, hB, h1, h2⟩ := g.2.1
  refine pk_loop (fun n i u => wX_fillTable_2 post f0 f1 f2 f3 n (nI i) a1 a2 a3 a4 a5 a6 a7 a8 a9 a10 a11 a12 a13 a14 a15 a16 u a18 a19) (fun i u => ∀ j, j < i → u j = zz_I (if j / 7 = j % 7 then 0 else 1048576)) 49 0 a17 (by omega) lt_0
    (fun n u h => pk_le 49 49 (fun _ => ?_) (fun z => absurd z (by omega)))
    (fun n i u hi h hw => pk_le 49 i (fun z => absurd z (by omega)) (fun _ => ⟨by decide, by decide, pk_eq (i / 7) (i % 7)
      (fun e => ⟨pk_in i 49 hi, nm_e (nm_r (nI_1 i) (hw _ (zz_fill (zz_cl (by omega)) h (by rw [if_pos e]; exact zz_0))))⟩)
      (fun e => ⟨pk_in i 49 hi, nm_e (nm_r (nI_1 i) (hw _ (zz_fill (zz_cl (by omega)) h (by rw [if_neg e]; exact zz_far))))⟩) (zz_dv (by omega)) (zz_rm (by omega))⟩))
  refine zz_arc c (fun n i u => wX_fillTable_39 post f0 f1 f2 f3 n (nI i) a1 a2 a3 a4 a5 a6 a7 a8 a9 a10 a11 a12 a13 a14 a15 a16 u a18 a19) (fun u => tb_P c A B w w u) u
    (fun n u h => pk_le 20 20 (fun _ => H u h) (fun z => absurd z (by omega)))
    (fun n i u hi hi2 hw => pk_le 20 i (fun z => absurd z (by omega)) (fun _ => ?_))
    (fun hc j hj => ?_)
    (fun hc n hw => pk_le 20 0 (fun z => absurd z (by omega)) (fun _ => ?_))
  · obtain ⟨p, hp, e1⟩ := gg_k1 g hi2
    obtain ⟨q, hq, e2⟩ := gg_k2 g hi2
    have e : a1 (nI i).toNatClampNeg * 7 + a2 (nI i).toNatClampNeg = nI (p * 7 + q) := by rw [e1, e2, zz_ix]
    exact ⟨pk_in i 20 hi2, pk_in i 20 hi2, nm_r e (gg_has0 g hi hi2 (br_t rfl ⟨pk_in (p * 7 + q) 49 (by omega), pk_in (p * 7 + q) 49 (by omega), nm_r (zz_self u _) (nm_r (nI_1 i) hw)⟩))⟩
  · subst hc
    rw [h j hj]
    unfold pp_T
    grind
  · have e : a1 (nI 0).toNatClampNeg * 7 + a2 (nI 0).toNatClampNeg = nI (A * 7 + B) := by rw [gg_a1 g, gg_a2 g, zz_ix]
    have eu : u (nI (A * 7 + B)).toNatClampNeg = zz_I (if A = B then 0 else 1048576) := by
      rw [zz_cl (by omega), h (A * 7 + B) (by omega), show (A * 7 + B) / 7 = A by omega, show (A * 7 + B) % 7 = B by omega]
    have bb : 0 ≤ (if A = B then (0 : Int) else 1048576) ∧ (if A = B then (0 : Int) else 1048576) ≤ 1048576 := by split <;> omega
    refine ⟨pk_in 0 20 (by omega), pk_in 0 20 (by omega), nm_r e (gg_has1 g hc (br_f (by decide) ⟨pk_in 0 20 (by omega), pk_in (A * 7 + B) 49 (by omega), zz_le (if A = B then 0 else 1048576) w
      (fun z => ⟨pk_in (A * 7 + B) 49 (by omega), pk_in (A * 7 + B) 49 (by omega), nm_r (zz_self u _) (nm_r (nI_1 0) (hw _ (fun j hj => ?_)))⟩)
      (fun z => ⟨pk_in 0 20 (by omega), pk_in (A * 7 + B) 49 (by omega), nm_r (e' := upd u (A * 7 + B) (zz_I w)) (by rw [zz_cl (by omega), gg_a3 g]) (nm_r (nI_1 0) (hw _ (fun j hj => ?_)))⟩) eu (gg_a3 g) ⟨by omega, by omega⟩ ⟨by omega, by omega⟩⟩))⟩
    · rw [h j hj]
      unfold pp_T
      subst hc
      grind
    · by_cases ej : j = A * 7 + B
      · rw [ej, pk_us, show (A * 7 + B) / 7 = A by omega, show (A * 7 + B) % 7 = B by omega]
        unfold pp_T
        subst hc
        grind
      · rw [pk_un ej, h j hj]
        have hne : ¬ (A = j / 7 ∧ B = j % 7) := by omega
        unfold pp_T
        grind
/-! over a middle point -/
theorem tb_10 {post : St2 → Prop} {J : Int32 → (Nat → Int32) → (Nat → Int32) → (Nat → Int32) → (Nat → Int32) → (Nat → Int32) → (Nat → Int32) → (Nat → Int32) → (Nat → Int32) → (Nat → Int32) → (Nat → Int32) → (Nat → Int32) → (Nat → Int32) → (Nat → Int32) → (Nat → Int32) → (Nat → Int32) → (Nat → Int32) → (Nat → Int32) → (Nat → Int32) → (Nat → Int32) → Prop} (g : gg_G c A B w f0 a1 a2 a3) {m x : Nat} (hm : m < 7) (hx : x < 7) {z : Int} (h : tb_P c A B w z a17) (hz : z = w ∨ (z = 2 * w ∧ (A < m ∨ (A = m ∧ A < x))))
    (H : ∀ u z, tb_P c A B w z u → (z = w ∨ (z = 2 * w ∧ (A < m ∨ (A = m ∧ A < x + 1)))) → J (nI x + 1) a1 a2 a3 a4 a5 a6 a7 a8 a9 a10 a11 a12 a13 a14 a15 a16 u a18 a19) : ∃ n, wX_overMiddle_10 post J (nI m) (nI x) f0 f1 f2 f3 n 0 a1 a2 a3 a4 a5 a6 a7 a8 a9 a10 a11 a12 a13 a14 a15 a16 a17 a18 a19 := by
  obtain ⟨hA, hB, h1, h2⟩ := g.2.1
  refine pk_loop (fun n i u => wX_overMiddle_10 post J (nI m) (nI x) f0 f1 f2 f3 n (nI i) a1 a2 a3 a4 a5 a6 a7 a8 a9 a10 a11 a12 a13 a14 a15 a16 u a18 a19) (fun y u => ∃ z, tb_P c A B w z u ∧ (z = w ∨ (z = 2 * w ∧ (A < m ∨ (A = m ∧ (A < x ∨ (A = x ∧ A < y))))))) 7 0 a17 (by omega) ⟨z, h, by omega⟩
    (fun n u k => pk_le 7 7 (fun _ => nm_e ?_) (fun z => absurd z (by omega)))
    (fun n y u hy k hw => pk_le 7 y (fun z => absurd z (by omega)) (fun _ => ?_))
  · obtain ⟨z', k1, k2⟩ := k
    exact H u z' k1 (by omega)
  · obtain ⟨z', k1, k2⟩ := k
    have b1 := tb_b (c := c) (A := A) (B := B) (z := z') h1 h2 (by omega) (by omega) x m
    have b2 := tb_b (c := c) (A := A) (B := B) (z := z') h1 h2 (by omega) (by omega) m y
    have b3 := tb_b (c := c) (A := A) (B := B) (z := z') h1 h2 (by omega) (by omega) x y
    have bl : ∀ s t, -40 ≤ pp_T c A B w z' s t := by
      intro s t
      unfold pp_T
      split
      · split <;> omega
      · split <;> omega
    have l1 := bl x m
    have l2 := bl m y
    have bs : -40 - 40 ≤ tb_s (pp_T c A B w z' x m) (pp_T c A B w z' m y) ∧ tb_s (pp_T c A B w z' x m) (pp_T c A B w z' m y) ≤ 2097152 := by
      unfold tb_s
      split <;> omega
    refine ⟨pk_in (x * 7 + m) 49 (by omega) (zz_ix x m), pk_in (m * 7 + y) 49 (by omega) (zz_ix m y), tb_sum (by rw [zz_cix (by omega)]; exact tb_at k1 hx hm) (by rw [zz_cix (by omega)]; exact tb_at k1 hm hy) b1 b2 (fun _ _ => by omega) ⟨pk_in (x * 7 + y) 49 (by omega) (zz_ix x y), ?_⟩⟩
    have e3 : u (nI x * 7 + nI y).toNatClampNeg = zz_I (pp_T c A B w z' x y) := by
      rw [zz_cix (by omega)]
      exact tb_at k1 hx hy
    by_cases hs : pp_L c A B w x ∧ x = y ∧ m = x
    · obtain ⟨hL, e1, e2⟩ := hs
      have hAx : A = x := hL.2.1
      have hw0 : w < 0 := hL.2.2.2
      have ez : z' = w := by omega
      subst e1 e2 ez
      rw [tb_mid1 hL (by omega)]
      refine zz_le (pp_T c A B z' z' m m) (2 * z') (fun t => ?_) (fun _ => ⟨pk_in (m * 7 + m) 49 (by omega) (zz_ix m m), nm_e (nm_r (nI_1 m) (hw _ ⟨2 * z', tb_put (zz_cix (by omega)) hm hL k1, Or.inr ⟨rfl, by omega⟩⟩))⟩) e3 rfl ⟨by omega, by omega⟩
      rw [pp_Tl _ hL] at t
      omega
    · have hle := tb_mid0 (z := z') (x := x) (y := y) (m := m) h1 h2 (by omega) hs
      exact zz_le (pp_T c A B w z' x y) (tb_s (pp_T c A B w z' x m) (pp_T c A B w z' m y)) (fun _ => ⟨pk_in (x * 7 + y) 49 (by omega) (zz_ix x y), pk_in (x * 7 + y) 49 (by omega) (zz_ix x y), nm_r (zz_self u _) (nm_r (nI_1 y) (hw _ ⟨z', k1, by omega⟩))⟩) (fun t => absurd t (by omega)) e3 rfl ⟨by omega, by omega⟩ ⟨by omega, by omega⟩
theorem tb_mid {post : St2 → Prop} (g : gg_G c A B w f0 a1 a2 a3) {m : Nat} (hm : m < 7) {z : Int} (h : tb_P c A B w z a17) (hz : z = w ∨ (z = 2 * w ∧ A < m))
    (H : ∀ u z, tb_P c A B w z u → (z = w ∨ (z = 2 * w ∧ A < m + 1)) → post (f0, f1, f2, f3, a1, a2, a3, a4, a5, a6, a7, a8, a9, a10, a11, a12, a13, a14, a15, a16, u, a18, a19)) : wpX_overMiddle post (f0, f1, f2, f3, a1, a2, a3, a4, a5, a6, a7, a8, a9, a10, a11, a12, a13, a14, a15, a16, a17, a18, a19) (nI m) := by
  refine pk_loop (fun n i u => wX_overMiddle_2 post (nI m) f0 f1 f2 f3 n (nI i) a1 a2 a3 a4 a5 a6 a7 a8 a9 a10 a11 a12 a13 a14 a15 a16 u a18 a19) (fun x u => ∃ z, tb_P c A B w z u ∧ (z = w ∨ (z = 2 * w ∧ (A < m ∨ (A = m ∧ A < x))))) 7 0 a17 (by omega) ⟨z, h, by omega⟩
    (fun n u k => pk_le 7 7 (fun _ => ?_) (fun z => absurd z (by omega)))
    (fun n x u hx k hw => pk_le 7 x (fun z => absurd z (by omega)) (fun _ => ?_))
  · obtain ⟨z', k1, k2⟩ := k
    exact H u z' k1 (by omega)
  · obtain ⟨z', k1, k2⟩ := k
    exact tb_10 g hm hx k1 k2 (fun u z k3 k4 => by rw [nI_1]; exact hw u ⟨z, k3, k4⟩)
/-! lowerOver -/
theorem tb_lower {post : St2 → Prop} {m : Nat} (hm : m < 7) (h1 : -20 ≤ w) (h2 : w ≤ 20) {z y : Int} (hL : pp_L c A B w m) (bz : -1000000 ≤ z ∧ z ≤ 1000) (h17 : tb_P c A B w z a17) (h4 : tb_P c A B w y a4) (H : ∀ F, tb_P c A B w (-4000) F → post (f0, f1, f2, f3, a1, a2, a3, F, a5, a6, a7, a8, a9, a10, a11, a12, a13, a14, a15, a16, a17, a18, a19)) : wpX_lowerOver post (f0, f1, f2, f3, a1, a2, a3, a4, a5, a6, a7, a8, a9, a10, a11, a12, a13, a14, a15, a16, a17, a18, a19) (nI m) := by
  refine pk_loop (fun n i F => wX_lowerOver_2 post (nI m) f0 f1 f2 f3 n (nI i) a1 a2 a3 F a5 a6 a7 a8 a9 a10 a11 a12 a13 a14 a15 a16 a17 a18 a19) (fun i F => (∀ j, j < i → F j = zz_I (pp_T c A B w (-4000) (j / 7) (j % 7))) ∧ (∀ j, i ≤ j → j < 49 → F j = zz_I (pp_T c A B w y (j / 7) (j % 7)))) 49 0 a4 (by omega) ⟨lt_0, fun j _ hj => h4 j hj⟩
    (fun n F k => pk_le 49 49 (fun _ => H F k.1) (fun z => absurd z (by omega)))
    (fun n i F hi k hw => pk_le 49 i (fun z => absurd z (by omega)) (fun _ => ?_))
  have hd : i / 7 < 7 := by omega
  have hr : i % 7 < 7 := by omega
  have e1 : nI i / 7 * 7 + nI m = nI (i / 7 * 7 + m) := by rw [zz_dv (by omega), zz_ix]
  have e2 : nI m * 7 + (nI i - nI i / 7 * 7) = nI (m * 7 + i % 7) := by rw [zz_rm (by omega), zz_ix]
  have c1 : a17 (nI i / 7 * 7 + nI m).toNatClampNeg = zz_I (pp_T c A B w z (i / 7) m) := by
    rw [e1, zz_cl (by omega)]
    exact tb_at h17 hd hm
  have c2 : a17 (nI m * 7 + (nI i - nI i / 7 * 7)).toNatClampNeg = zz_I (pp_T c A B w z m (i % 7)) := by
    rw [e2, zz_cl (by omega)]
    exact tb_at h17 hm hr
  have c3 : F (nI i).toNatClampNeg = zz_I (pp_T c A B w y (i / 7) (i % 7)) := zz_at (k.2 i (Nat.le_refl i) hi)
  have b1 := tb_b (c := c) (A := A) (B := B) (z := z) h1 h2 (by omega) (by omega) (i / 7) m
  have b2 := tb_b (c := c) (A := A) (B := B) (z := z) h1 h2 (by omega) (by omega) m (i % 7)
  have skip : ¬ (i / 7 = m ∧ i % 7 = m) → wX_lowerOver_51 post (wX_lowerOver_2 post (nI m) f0 f1 f2 f3 n) (nI m) (nI i) 0 f0 f1 f2 f3 a1 a2 a3 F a5 a6 a7 a8 a9 a10 a11 a12 a13 a14 a15 a16 a17 a18 a19 := by
    intro hne
    refine br_t rfl ⟨pk_in i 49 hi, pk_in i 49 hi, nm_e (nm_r (nI_1 i) (hw _ ⟨zz_fill (zz_cl (by omega)) k.1 ?_, zz_keep (zz_cl (by omega)) k.2⟩))⟩
    rw [c3]
    refine congrArg zz_I (tb_other (fun t => hne ?_))
    have t1 := t.1
    have t2 : A = i / 7 := t.2.2.1
    have t3 : A = m := hL.2.1
    omega
  have n1 : ¬ i / 7 = m → pp_T c A B w z (i / 7) m = 1048576 := by
    intro e
    unfold pp_T
    rw [if_neg e, if_neg (fun t => e (t.2.1.symm.trans hL.2.1))]
  have n2 : ¬ i % 7 = m → pp_T c A B w z m (i % 7) = 1048576 := by
    intro e
    unfold pp_T
    rw [if_neg (fun t => e t.symm), if_neg (fun t => e (t.2.2.symm.trans hL.2.2.1))]
  refine ⟨by decide, pk_in (i / 7 * 7 + m) 49 (by omega) e1, zz_le 1048576 (pp_T c A B w z (i / 7) m) (fun t => skip (fun t2 => ?_)) (fun t => ⟨by decide, pk_in (m * 7 + i % 7) 49 (by omega) e2, zz_le 1048576 (pp_T c A B w z m (i % 7)) (fun t' => skip (fun t2 => ?_)) (fun t' => br_f (by decide) ⟨pk_in i 49 hi, nm_e (nm_r (nI_1 i) (hw _ ⟨zz_fill (zz_cl (by omega)) k.1 ?_, zz_keep (zz_cl (by omega)) k.2⟩))⟩) zz_far c2⟩) zz_far c1⟩
  · rw [t2.1, pp_Tl z hL] at t
    omega
  · rw [t2.2, pp_Tl z hL] at t'
    omega
  · have q1 : i / 7 = m := by
      by_cases e : i / 7 = m
      · exact e
      · rw [n1 e] at t
        omega
    have q2 : i % 7 = m := by
      by_cases e : i % 7 = m
      · exact e
      · rw [n2 e] at t'
        omega
    rw [q1, q2, pp_Tl _ hL]
    exact zz_low
/-- solveOverMiddles -/
theorem tb_middles {post : St2 → Prop} (g : gg_G c A B w f0 a1 a2 a3) (H : ∀ F T, tb_P c A B w (-4000) F → post (f0, f1, f2, f3, a1, a2, a3, F, a5, a6, a7, a8, a9, a10, a11, a12, a13, a14, a15, a16, T, a18, a19)) : wpX_solveOverMiddles post (f0, f1, f2, f3, a1, a2, a3, a4, a5, a6, a7, a8, a9, a10, a11, a12, a13, a14, a15, a16, a17, a18, a19) := by
  obtain ⟨hA, hB, h1, h2⟩ := g.2.1
  refine tb_fill g (fun T hT => pk_loop (fun n m u => wX_solveOverMiddles_6 post n (nI m) f0 f1 f2 f3 a1 a2 a3 a4 a5 a6 a7 a8 a9 a10 a11 a12 a13 a14 a15 a16 u a18 a19) (fun m u => ∃ z, tb_P c A B w z u ∧ (z = w ∨ (z = 2 * w ∧ A < m))) 7 0 T (by omega) ⟨w, hT, Or.inl rfl⟩
    (fun n u k => pk_le 7 7 (fun _ => ?_) (fun z => absurd z (by omega)))
    (fun n m u hm k hw => pk_le 7 m (fun z => absurd z (by omega)) (fun _ => ?_)))
  · obtain ⟨z, k1, k2⟩ := k
    refine pk_loop (fun n i F => wX_solveOverMiddles_25 post f0 f1 f2 f3 n (nI i) a1 a2 a3 F a5 a6 a7 a8 a9 a10 a11 a12 a13 a14 a15 a16 u a18 a19) (fun i F => ∀ j, j < i → F j = zz_I (pp_T c A B w z (j / 7) (j % 7))) 49 0 a4 (by omega) lt_0
      (fun n F k3 => pk_le 49 49 (fun _ => ?_) (fun z => absurd z (by omega)))
      (fun n i F hi k3 hw => pk_le 49 i (fun z => absurd z (by omega)) (fun _ => ⟨pk_in i 49 hi, pk_in i 49 hi, nm_e (nm_r (nI_1 i) (hw _ (zz_fill (zz_cl (by omega)) k3 (zz_at (k1 i hi)))))⟩))
    refine pk_loop (fun n m F => wX_solveOverMiddles_51 post n (nI m) f0 f1 f2 f3 a1 a2 a3 F a5 a6 a7 a8 a9 a10 a11 a12 a13 a14 a15 a16 u a18 a19) (fun m F => tb_P c A B w (if A < m then -4000 else z) F) 7 0 F (by omega) (by rw [if_neg (by omega)]; exact k3)
      (fun n F k4 => pk_le 7 7 (fun _ => H F u (by rw [if_pos (by omega)] at k4; exact k4)) (fun z => absurd z (by omega)))
      (fun n m F hm k4 hw => pk_le 7 m (fun z => absurd z (by omega)) (fun _ => ⟨pk_in (m * 7 + m) 49 (by omega) (zz_ix m m), ?_⟩))
    have e3 : u (nI m * 7 + nI m).toNatClampNeg = zz_I (pp_T c A B w z m m) := by
      rw [zz_cix (by omega)]
      exact tb_at k1 hm hm
    have b3 := tb_b (c := c) (A := A) (B := B) (z := z) h1 h2 (by omega) (by omega) m m
    by_cases hL : pp_L c A B w m
    · have hw0 : w < 0 := hL.2.2.2
      have hAm : A = m := hL.2.1
      refine zz_le 0 (pp_T c A B w z m m) (fun t => ?_) (fun _ => tb_lower hm h1 h2 hL (by omega) k1 k4 (fun F' k5 => nm_r (nI_1 m) (hw F' (by rw [if_pos (by omega)]; exact k5)))) zz_0 e3
      rw [pp_Tl z hL] at t
      omega
    · refine zz_le 0 (pp_T c A B w z m m) (fun _ => nm_r (nI_1 m) (hw F ?_)) (fun t => ?_) zz_0 e3
      · intro j hj
        rw [k4 j hj]
        refine congrArg zz_I ?_
        by_cases e : A < m
        · rw [if_pos e, if_pos (by omega)]
        · by_cases e' : A = m
          · rw [if_neg e, if_pos (by omega)]
            refine tb_other (fun t => hL ?_)
            have t2 := t.2
            exact ⟨t2.1, e', t2.2.2.1.trans (t2.2.1.symm.trans e'), t2.2.2.2⟩
          · rw [if_neg e, if_neg (by omega)]
      · unfold pp_T at t
        rw [if_pos rfl, if_neg hL] at t
        omega
  · obtain ⟨z, k1, k2⟩ := k
    exact tb_mid g hm k1 k2 (fun u z k3 k4 => nm_r (nI_1 m) (hw u ⟨z, k3, k4⟩))
end
/-! doubling -/
def pp_z (w : Int) : Nat → Int
  | 0 => w
  | r + 1 => 2 * pp_z w r
theorem pp_zn {w : Int} (hw : w < 0) : ∀ r, pp_z w r < 0 := by
  intro r
  induction r with
  | zero => exact hw
  | succ r ih =>
    have e : pp_z w (r + 1) = 2 * pp_z w r := rfl
    omega
theorem pp_zk {w : Int} (hw : w < 0) (r : Nat) : ∀ k, pp_z w (r + k) ≤ pp_z w r := by
  intro k
  induction k with
  | zero => exact Int.le_refl _
  | succ k ih =>
    have e : pp_z w (r + (k + 1)) = 2 * pp_z w (r + k) := rfl
    have h := pp_zn hw (r + k)
    omega
theorem pp_z12 (w : Int) : pp_z w 12 = 4096 * w := by
  simp only [pp_z]
  omega
theorem pp_zb {w : Int} (h1 : -20 ≤ w) (h2 : w ≤ 20) (r : Nat) (hr : r ≤ 12) (hw : w < 0) : -81920 ≤ pp_z w r ∧ pp_z w r < 0 := by
  have h := pp_zk hw r (12 - r)
  rw [show r + (12 - r) = 12 by omega, pp_z12] at h
  exact ⟨by omega, pp_zn hw r⟩
section
variable {c : Bool} {A B : Nat} {w : Int} {f0 f1 f2 f3 : Int32} {a1 a2 a3 a4 a5 a6 a7 a8 a9 a10 a11 a12 a13 a14 a15 a16 a17 a18 a19 : Nat → Int32}
theorem tb_least {post : Int32 → Prop} (g : gg_G c A B w f0 a1 a2 a3) {x y : Nat} (hx : x < 7) (hy : y < 7) {z : Int} (h : tb_P c A B w z a17) (hz : w < 0 → -81920 ≤ z ∧ z < 0) (H : post (zz_I (pp_T c A B w (2 * z) x y))) {p0 p1 : Int32} (e0 : p0 = nI x) (e1 : p1 = nI y) : wpX_leastOverAll post (f0, f1, f2, f3, a1, a2, a3, a4, a5, a6, a7, a8, a9, a10, a11, a12, a13, a14, a15, a16, a17, a18, a19) p0 p1 := by
  obtain ⟨hA, hB, h1, h2⟩ := g.2.1
  subst e0 e1
  have bl : ∀ v, (w < 0 → -163840 ≤ v ∧ v < 0) → ∀ s t, -163840 ≤ pp_T c A B w v s t ∧ pp_T c A B w v s t ≤ 1048576 := by
    intro v hv s t
    unfold pp_T
    split
    · split
      · rename_i q
        have := hv q.2.2.2
        omega
      · omega
    · split <;> omega
  have bl2 : ∀ s t, -81920 ≤ pp_T c A B w z s t := by
    intro s t
    unfold pp_T
    split
    · split
      · rename_i q
        have := hz q.2.2.2
        omega
      · omega
    · split <;> omega
  have b2 := bl (2 * z) (by omega) x y
  refine pk_loop (fun n m b => wX_leastOverAll_6 post (nI x) (nI y) f0 f1 f2 f3 a1 a2 a3 a4 a5 a6 a7 a8 a9 a10 a11 a12 a13 a14 a15 a16 a17 a18 a19 n b (nI m)) (fun m b => b = zz_I (if x < m ∨ y < m then pp_T c A B w (2 * z) x y else 1048576)) 7 0 1048576 (by omega) (by rw [if_neg (by omega)]; exact zz_far)
    (fun n b k => pk_le 7 7 (fun _ => by rw [k, if_pos (by omega)]; exact H) (fun z => absurd z (by omega)))
    (fun n m b hm k hw => pk_le 7 m (fun z => absurd z (by omega)) (fun _ => ⟨pk_in (x * 7 + m) 49 (by omega) (zz_ix x m), pk_in (m * 7 + y) 49 (by omega) (zz_ix m y), ?_⟩))
  have b3 := bl z (by omega) x m
  have b4 := bl z (by omega) m y
  have b5 := bl2 x m
  have b6 := bl2 m y
  refine tb_sum (by rw [zz_cix (by omega)]; exact tb_at h hx hm) (by rw [zz_cix (by omega)]; exact tb_at h hm hy) (by omega) (by omega) (by omega) ?_
  rw [tb_way h1 h2 (fun t => (hz t).2)]
  by_cases hset : x < m ∨ y < m
  · rw [if_pos hset] at k
    refine zz_le (pp_T c A B w (2 * z) x y) (if m = x ∨ m = y then pp_T c A B w (2 * z) x y else 1048576) (fun _ => nm_r (nI_1 m) (hw b ?_)) (fun t => ?_) k rfl ⟨by omega, by omega⟩ ⟨by split <;> omega, by split <;> omega⟩
    · rw [k, if_pos (by omega)]
    · split at t <;> omega
  · rw [if_neg hset] at k
    by_cases hm2 : m = x ∨ m = y
    · rw [if_pos hm2]
      refine zz_le 1048576 (pp_T c A B w (2 * z) x y) (fun t => nm_r (nI_1 m) (hw b ?_)) (fun t => nm_r (nI_1 m) (hw _ ?_)) k rfl ⟨by omega, by omega⟩ ⟨by omega, by omega⟩
      · rw [k, if_pos (by omega)]
        exact congrArg zz_I (by omega)
      · rw [if_pos (by omega)]
    · rw [if_neg hm2]
      refine zz_le 1048576 1048576 (fun t => nm_r (nI_1 m) (hw b ?_)) (fun t => absurd t (by omega)) k rfl ⟨by omega, by omega⟩ ⟨by omega, by omega⟩
      rw [k, if_neg (by omega)]
/-- solveByDoubling -/
theorem tb_doubling {post : St2 → Prop} (g : gg_G c A B w f0 a1 a2 a3) (H : ∀ F T T2, tb_P c A B w (-4000) F → post (f0, f1, f2, f3, a1, a2, a3, F, a5, a6, a7, a8, a9, a10, a11, a12, a13, a14, a15, a16, T, T2, a19)) : wpX_solveByDoubling post (f0, f1, f2, f3, a1, a2, a3, a4, a5, a6, a7, a8, a9, a10, a11, a12, a13, a14, a15, a16, a17, a18, a19) := by
  obtain ⟨hA, hB, h1, h2⟩ := g.2.1
  refine tb_fill g (fun T hT => pk_loop (σ := (Nat → Int32) × (Nat → Int32)) (fun n r u => wX_solveByDoubling_6 post f0 f1 f2 f3 n (nI r) a1 a2 a3 a4 a5 a6 a7 a8 a9 a10 a11 a12 a13 a14 a15 a16 u.1 u.2 a19) (fun r u => tb_P c A B w (pp_z w r) u.1) 12 0 (T, a18) (by omega) hT
    (fun n u k => pk_le 12 12 (fun _ => ?_) (fun z => absurd z (by omega)))
    (fun n r u hr k hw => pk_le 12 r (fun z => absurd z (by omega)) (fun _ => ?_)))
  · rw [pp_z12] at k
    refine pk_loop (fun n i F => wX_solveByDoubling_78 post f0 f1 f2 f3 n (nI i) a1 a2 a3 F a5 a6 a7 a8 a9 a10 a11 a12 a13 a14 a15 a16 u.1 u.2 a19) (fun i F => ∀ j, j < i → F j = zz_I (pp_T c A B w (-4000) (j / 7) (j % 7))) 49 0 a4 (by omega) lt_0
      (fun n F k3 => pk_le 49 49 (fun _ => H F u.1 u.2 k3) (fun z => absurd z (by omega)))
      (fun n i F hi k3 hw => pk_le 49 i (fun z => absurd z (by omega)) (fun _ => ⟨pk_in i 49 hi, ?_⟩))
    have e3 : u.1 (nI i).toNatClampNeg = zz_I (pp_T c A B w (4096 * w) (i / 7) (i % 7)) := zz_at (k i hi)
    by_cases hL : i / 7 = i % 7 ∧ pp_L c A B w (i / 7)
    · have hw0 : w < 0 := hL.2.2.2.2
      rw [← hL.1, pp_Tl _ hL.2] at e3
      refine zz_le (-140) (4096 * w) (fun t => absurd t (by omega)) (fun _ => ⟨pk_in i 49 hi, nm_e (nm_r (nI_1 i) (hw _ (zz_fill (zz_cl (by omega)) k3 ?_)))⟩) (by decide) e3
      rw [← hL.1, pp_Tl _ hL.2]
      exact zz_low
    · have b : -140 ≤ pp_T c A B w (4096 * w) (i / 7) (i % 7) ∧ pp_T c A B w (4096 * w) (i / 7) (i % 7) ≤ 1048576 := by
        unfold pp_T
        split
        · rename_i q
          rw [if_neg (fun t => hL ⟨q, t⟩)]
          omega
        · split <;> omega
      refine zz_le (-140) (pp_T c A B w (4096 * w) (i / 7) (i % 7)) (fun _ => ⟨pk_in i 49 hi, pk_in i 49 hi, nm_e (nm_r (nI_1 i) (hw _ (zz_fill (zz_cl (by omega)) k3 ?_)))⟩) (fun t => absurd t (by omega)) (by decide) e3
      rw [e3]
      exact congrArg zz_I (tb_other hL)
  · refine pk_loop (fun n i v => wX_solveByDoubling_14 post (wX_solveByDoubling_6 post f0 f1 f2 f3 _) (nI r) f0 f1 f2 f3 n (nI i) a1 a2 a3 a4 a5 a6 a7 a8 a9 a10 a11 a12 a13 a14 a15 a16 u.1 v a19) (fun i v => ∀ j, j < i → v j = zz_I (pp_T c A B w (pp_z w (r + 1)) (j / 7) (j % 7))) 49 0 u.2 (by omega) lt_0
      (fun n' v k3 => pk_le 49 49 (fun _ => ?_) (fun z => absurd z (by omega)))
      (fun n' i v hi k3 hw2 => pk_le 49 i (fun z => absurd z (by omega)) (fun _ => ⟨by decide, by decide, tb_least g (x := i / 7) (y := i % 7) (by omega) (by omega) k (fun t => pp_zb h1 h2 r (by omega) t) ⟨pk_in i 49 hi, nm_e (nm_r (nI_1 i) (hw2 _ (zz_fill (zz_cl (by omega)) k3 rfl)))⟩ (zz_dv (by omega)) (zz_rm (by omega))⟩))
    refine pk_loop (fun n i t => wX_solveByDoubling_46 post (wX_solveByDoubling_6 post f0 f1 f2 f3 _) (nI r) f0 f1 f2 f3 n (nI i) a1 a2 a3 a4 a5 a6 a7 a8 a9 a10 a11 a12 a13 a14 a15 a16 t v a19) (fun i t => ∀ j, j < i → t j = zz_I (pp_T c A B w (pp_z w (r + 1)) (j / 7) (j % 7))) 49 0 u.1 (by omega) lt_0
      (fun n' t k4 => pk_le 49 49 (fun _ => nm_r (nI_1 r) (hw (t, v) k4)) (fun z => absurd z (by omega)))
      (fun n' i t hi k4 hw2 => pk_le 49 i (fun z => absurd z (by omega)) (fun _ => ⟨pk_in i 49 hi, pk_in i 49 hi, nm_e (nm_r (nI_1 i) (hw2 _ (zz_fill (zz_cl (by omega)) k4 (zz_at (k3 i hi)))))⟩))
end
end
section
theorem sv_row {c : Bool} {A B : Nat} {w z : Int} {u F : Nat → Int32} {s : Nat} (h : ∀ j, j < s * 7 → u j = zz_I (pp_T c A B w z (j / 7) (j % 7))) (k1 : ∀ t, t < 7 → F (s * 7 + t) = zz_I (pp_T c A B w z s t)) (k2 : ∀ j, (j < s * 7 ∨ s * 7 + 7 ≤ j) → F j = u j) :
    ∀ j, j < (s + 1) * 7 → F j = zz_I (pp_T c A B w z (j / 7) (j % 7)) := by
  intro j hj
  by_cases e : j < s * 7
  · rw [k2 j (Or.inl e)]
    exact h j e
  · have q := k1 (j - s * 7) (by omega)
    rw [show s * 7 + (j - s * 7) = j by omega] at q
    rw [q, show j / 7 = s by omega, show j % 7 = j - s * 7 by omega]
section
variable {c : Bool} {A B : Nat} {w : Int} {f0 f1 f2 f3 : Int32} {a1 a2 a3 a4 a5 a6 a7 a8 a9 a10 a11 a12 a13 a14 a15 a16 a17 a18 a19 : Nat → Int32}
theorem sv_0 {post : St2 → Prop} (g : gg_G c A B w f0 a1 a2 a3) (H : ∀ x1 x2 x3 y4 y5 y6 y7 y8 y9 y10 y11 y12 y13 y14 y15 y16 y17 y18 y19, tb_P c A B w (-4000) y4 → post (f0, x1, x2, x3, a1, a2, a3, y4, y5, y6, y7, y8, y9, y10, y11, y12, y13, y14, y15, y16, y17, y18, y19)) : ∃ n, wX_solve_35 post (nI 0) n 0 f0 f1 f2 f3 a1 a2 a3 a4 a5 a6 a7 a8 a9 a10 a11 a12 a13 a14 a15 a16 a17 a18 a19 :=
  pk_loop (σ := (Nat → Int32) × (Nat → Int32) × (Nat → Int32)) (fun n s u => wX_solve_35 post (nI 0) n (nI s) f0 f1 f2 f3 a1 a2 a3 u.1 a5 u.2.1 u.2.2 a8 a9 a10 a11 a12 a13 a14 a15 a16 a17 a18 a19) (fun s u => ∀ j, j < s * 7 → u.1 j = zz_I (pp_T c A B w (-4000) (j / 7) (j % 7))) 7 0 (a4, a6, a7) (by omega) (fun j hj => absurd hj (by omega))
    (fun n u h => pk_le 7 7 (fun _ => H _ _ _ _ _ _ _ _ _ _ _ _ _ _ _ _ _ _ _ h) (fun z => absurd z (by omega)))
    (fun n s u hs h hw => pk_le 7 s (fun z => absurd z (by omega)) (fun _ => br_t (by decide) (gr_go g hs (fun F d l k1 k2 => nm_r (nI_1 s) (hw (F, d, l) (sv_row h k1 k2))))))
theorem sv_1 {post : St2 → Prop} (g : gg_G c A B w f0 a1 a2 a3) (H : ∀ x1 x2 x3 y4 y5 y6 y7 y8 y9 y10 y11 y12 y13 y14 y15 y16 y17 y18 y19, tb_P c A B w (-4000) y4 → post (f0, x1, x2, x3, a1, a2, a3, y4, y5, y6, y7, y8, y9, y10, y11, y12, y13, y14, y15, y16, y17, y18, y19)) : ∃ n, wX_solve_35 post (nI 1) n 0 f0 f1 f2 f3 a1 a2 a3 a4 a5 a6 a7 a8 a9 a10 a11 a12 a13 a14 a15 a16 a17 a18 a19 :=
  pk_loop (σ := (Nat → Int32) × (Nat → Int32) × (Nat → Int32) × (Nat → Int32) × (Nat → Int32) × (Nat → Int32)) (fun n s u => wX_solve_35 post (nI 1) n (nI s) f0 f1 f2 f3 a1 a2 a3 u.1 a5 u.2.1 u.2.2.1 u.2.2.2.1 u.2.2.2.2.1 u.2.2.2.2.2 a11 a12 a13 a14 a15 a16 a17 a18 a19) (fun s u => ∀ j, j < s * 7 → u.1 j = zz_I (pp_T c A B w (-4000) (j / 7) (j % 7))) 7 0 (a4, a6, a7, a8, a9, a10) (by omega) (fun j hj => absurd hj (by omega))
    (fun n u h => pk_le 7 7 (fun _ => H _ _ _ _ _ _ _ _ _ _ _ _ _ _ _ _ _ _ _ h) (fun z => absurd z (by omega)))
    (fun n s u hs h hw => pk_le 7 s (fun z => absurd z (by omega)) (fun _ => br_f (by decide) (br_t (by decide) (gq_go g hs (fun F d l t q r k1 k2 => nm_r (nI_1 s) (hw (F, d, l, t, q, r) (sv_row h k1 k2)))))))
theorem sv_2 {post : St2 → Prop} (g : gg_G c A B w f0 a1 a2 a3) (k : gw_GP c A B w a14 a15) (h11 : ∀ p, p < 7 → a11 p = zz_I (pp_P c A B w 7 p)) (H : ∀ x1 x2 x3 y4 y5 y6 y7 y8 y9 y10 y11 y12 y13 y14 y15 y16 y17 y18 y19, tb_P c A B w (-4000) y4 → post (f0, x1, x2, x3, a1, a2, a3, y4, y5, y6, y7, y8, y9, y10, y11, y12, y13, y14, y15, y16, y17, y18, y19)) : ∃ n, wX_solve_35 post (nI 2) n 0 f0 f1 f2 f3 a1 a2 a3 a4 a5 a6 a7 a8 a9 a10 a11 a12 a13 a14 a15 a16 a17 a18 a19 :=
  pk_loop (σ := Int32 × (Nat → Int32) × (Nat → Int32) × (Nat → Int32) × (Nat → Int32) × (Nat → Int32)) (fun n s u => wX_solve_35 post (nI 2) n (nI s) f0 u.1 f2 f3 a1 a2 a3 u.2.1 a5 u.2.2.1 u.2.2.2.1 a8 a9 a10 a11 u.2.2.2.2.1 u.2.2.2.2.2 a14 a15 a16 a17 a18 a19) (fun s u => ∀ j, j < s * 7 → u.2.1 j = zz_I (pp_T c A B w (-4000) (j / 7) (j % 7))) 7 0 (f1, a4, a6, a7, a12, a13) (by omega) (fun j hj => absurd hj (by omega))
    (fun n u h => pk_le 7 7 (fun _ => H _ _ _ _ _ _ _ _ _ _ _ _ _ _ _ _ _ _ _ h) (fun z => absurd z (by omega)))
    (fun n s u hs h hw => pk_le 7 s (fun z => absurd z (by omega)) (fun _ => br_f (by decide) (br_f (by decide) (gw_go g k hs h11 (fun x1 F d l x12 x13 k1 k2 => nm_r (nI_1 s) (hw (x1, F, d, l, x12, x13) (sv_row h k1 k2)))))))
/-- solve, any engine -/
theorem sv_solve {post : St2 → Prop} (g : gg_G c A B w f0 a1 a2 a3) {e : Nat} (he : e < 5) (H : ∀ x1 x2 x3 y4 y5 y6 y7 y8 y9 y10 y11 y12 y13 y14 y15 y16 y17 y18 y19, tb_P c A B w (-4000) y4 → post (f0, x1, x2, x3, a1, a2, a3, y4, y5, y6, y7, y8, y9, y10, y11, y12, y13, y14, y15, y16, y17, y18, y19)) {p0 : Int32} (hp : p0 = nI e) : wpX_solve post (f0, f1, f2, f3, a1, a2, a3, a4, a5, a6, a7, a8, a9, a10, a11, a12, a13, a14, a15, a16, a17, a18, a19) p0 := by
  subst hp
  have he' : e = 0 ∨ e = 1 ∨ e = 2 ∨ e = 3 ∨ e = 4 := by omega
  rcases he' with e0 | e0 | e0 | e0 | e0
  · subst e0
    exact br_f (by decide) (br_f (by decide) (br_f (by decide) (sv_0 g H)))
  · subst e0
    exact br_f (by decide) (br_f (by decide) (br_f (by decide) (sv_1 g H)))
  · subst e0
    exact br_f (by decide) (br_f (by decide) (br_t (by decide) (fg_go g (fun x11 x14 x15 k => fp_go g k (fun x11' h11 => sv_2 g k h11 H)))))
  · subst e0
    exact br_t (by decide) (tb_middles g (fun F T h => H _ _ _ _ _ _ _ _ _ _ _ _ _ _ _ _ _ _ _ h))
  · subst e0
    exact br_f (by decide) (br_t (by decide) (tb_doubling g (fun F T T2 h => H _ _ _ _ _ _ _ _ _ _ _ _ _ _ _ _ _ _ _ h)))
end
/-! points, engines -/
def la_pt (x : Int32) (N : Nat) : Prop := ∃ n, n < N ∧ x = nI n
theorem la_neg {x : Int32} {N : Nat} (hN : N < 1000) (h : x < 0) : ¬ la_pt x N := by
  rintro ⟨n, hn, e⟩
  rw [e] at h
  exact nI_pos (by omega) h
theorem la_big {x : Int32} {N : Nat} (hN : N < 1000) (h : nI N ≤ x) : ¬ la_pt x N := by
  rintro ⟨n, hn, e⟩
  rw [e] at h
  exact nI_ge hn (by omega) h
theorem la_in {x : Int32} {N : Nat} (hN : N < 1000) (h1 : ¬ x < 0) (h2 : ¬ nI N ≤ x) : la_pt x N := by
  rcases pk_ix x (n := N) (by omega) with h | h | h
  · exact absurd h h1
  · exact absurd h h2
  · exact h
theorem la_point {post : Int32 → Prop} {x : Int32} (h1 : la_pt x 7 → post 1) (h0 : ¬ la_pt x 7 → post 0) : wpX_isPoint post () x :=
  br_c (fun z => h0 (la_neg (by omega) z)) (fun z => br_c (fun z2 => h0 (la_big (N := 7) (by omega) z2)) (fun z2 => h1 (la_in (N := 7) (by omega) z z2)))
theorem la_engine {post : Int32 → Prop} {x : Int32} (h1 : la_pt x 5 → post 1) (h0 : ¬ la_pt x 5 → post 0) : wpX_isEngine post () x :=
  br_c (fun z => h0 (la_neg (by omega) z)) (fun z => br_c (fun z2 => h0 (la_big (N := 5) (by omega) z2)) (fun z2 => h1 (la_in (N := 5) (by omega) z z2)))
section
variable {c : Bool} {A B : Nat} {w : Int} {f0 f1 f2 f3 : Int32} {a1 a2 a3 a4 a5 a6 a7 a8 a9 a10 a11 a12 a13 a14 a15 a16 a17 a18 a19 : Nat → Int32}
theorem sv_answer {post : Int32 → Prop} (g : gg_G c A B w f0 a1 a2 a3) (h : tb_P c A B w (-4000) a4) {s t : Nat} (hs : s < 7) (ht : t < 7) (H : post (zz_I (if pp_T c A B w (-4000) s t = 1048576 then -3000 else pp_T c A B w (-4000) s t))) {p0 p1 : Int32} (e0 : p0 = nI s) (e1 : p1 = nI t) : wpX_answer post (f0, f1, f2, f3, a1, a2, a3, a4, a5, a6, a7, a8, a9, a10, a11, a12, a13, a14, a15, a16, a17, a18, a19) p0 p1 := by
  subst e0 e1
  obtain ⟨hA, hB, h1, h2⟩ := g.2.1
  have b := tb_b (c := c) (A := A) (B := B) (z := -4000) h1 h2 (by omega) (by omega) s t
  refine ⟨pk_in (s * 7 + t) 49 (by omega) (zz_ix s t), nm_r (e' := zz_I (pp_T c A B w (-4000) s t)) (by rw [zz_cix (by omega)]; exact tb_at h hs ht) (zz_eq (pp_T c A B w (-4000) s t) 1048576 (fun z => ?_) (fun z => ?_) rfl zz_far)⟩
  · rw [if_pos z] at H
    rw [zz_none]
    exact H
  · rw [if_neg z] at H
    exact H
/-- least -/
theorem sv_least {post : Int32 → St2 → Prop} (g : gg_G c A B w f0 a1 a2 a3) {p0 p1 p2 : Int32}
    (H1 : ∀ s t, la_pt p0 5 → s < 7 → t < 7 → p1 = nI s → p2 = nI t → ∀ x1 x2 x3 y4 y5 y6 y7 y8 y9 y10 y11 y12 y13 y14 y15 y16 y17 y18 y19, post (zz_I (if pp_T c A B w (-4000) s t = 1048576 then -3000 else pp_T c A B w (-4000) s t)) (f0, x1, x2, x3, a1, a2, a3, y4, y5, y6, y7, y8, y9, y10, y11, y12, y13, y14, y15, y16, y17, y18, y19))
    (H0 : ¬ (la_pt p1 7 ∧ la_pt p2 7 ∧ la_pt p0 5) → ∀ x1 x2 x3 y4 y5 y6 y7 y8 y9 y10 y11 y12 y13 y14 y15 y16 y17 y18 y19, post (-1000) (f0, x1, x2, x3, a1, a2, a3, y4, y5, y6, y7, y8, y9, y10, y11, y12, y13, y14, y15, y16, y17, y18, y19)) : wpX_least post (f0, f1, f2, f3, a1, a2, a3, a4, a5, a6, a7, a8, a9, a10, a11, a12, a13, a14, a15, a16, a17, a18, a19) p0 p1 p2 := by
  unfold wpX_least
  refine la_point (fun z1 => br_f (by decide) (la_point (fun z2 => br_f (by decide) (la_engine (fun z3 => br_f (by decide) ?_) (fun z3 => br_t rfl (H0 (fun t => z3 t.2.2) _ _ _ _ _ _ _ _ _ _ _ _ _ _ _ _ _ _ _)))) (fun z2 => br_t rfl (H0 (fun t => z2 t.2.1) _ _ _ _ _ _ _ _ _ _ _ _ _ _ _ _ _ _ _)))) (fun z1 => br_t rfl (H0 (fun t => z1 t.1) _ _ _ _ _ _ _ _ _ _ _ _ _ _ _ _ _ _ _))
  obtain ⟨s, hs, es⟩ := z1
  obtain ⟨t, ht, et⟩ := z2
  obtain ⟨e, he, ee⟩ := id z3
  exact sv_solve g he (fun x1 x2 x3 y4 y5 y6 y7 y8 y9 y10 y11 y12 y13 y14 y15 y16 y17 y18 y19 h => sv_answer g h hs ht (H1 s t z3 hs ht es et _ _ _ _ _ _ _ _ _ _ _ _ _ _ _ _ _ _ _) es et) ee
/-- isFinite -/
theorem sv_fin {post : Int32 → Prop} (g : gg_G c A B w f0 a1 a2 a3) (h : tb_P c A B w (-4000) a4) {s t : Nat} (hs : s < 7) (ht : t < 7) (H1 : ¬ pp_T c A B w (-4000) s t = 1048576 → ¬ pp_T c A B w (-4000) s t = -4000 → post 1) (H0 : (pp_T c A B w (-4000) s t = 1048576 ∨ pp_T c A B w (-4000) s t = -4000) → post 0) {p0 p1 : Int32} (e0 : p0 = nI s) (e1 : p1 = nI t) : wpX_isFinite post (f0, f1, f2, f3, a1, a2, a3, a4, a5, a6, a7, a8, a9, a10, a11, a12, a13, a14, a15, a16, a17, a18, a19) p0 p1 := by
  subst e0 e1
  obtain ⟨hA, hB, h1, h2⟩ := g.2.1
  have b := tb_b (c := c) (A := A) (B := B) (z := -4000) h1 h2 (by omega) (by omega) s t
  exact ⟨pk_in (s * 7 + t) 49 (by omega) (zz_ix s t), nm_r (e' := zz_I (pp_T c A B w (-4000) s t)) (by rw [zz_cix (by omega)]; exact tb_at h hs ht) (zz_eq (pp_T c A B w (-4000) s t) 1048576 (fun z => H0 (Or.inl z)) (fun z => zz_eq (pp_T c A B w (-4000) s t) (-4000) (fun z2 => H0 (Or.inr z2)) (fun z2 => H1 z z2) rfl zz_low) rfl zz_far)⟩
theorem sv_p1 {c : Bool} {A B : Nat} {w : Int} {s : Nat} (h1 : -20 ≤ w) (h2 : w ≤ 20) (hc : c = true) (e1 : ¬ pp_T c A B w (-4000) s A = 1048576) (e2 : ¬ pp_T c A B w (-4000) s A = -4000) : s = A ∧ ¬ pp_L c A B w A ∧ pp_T c A B w (-4000) s A = 0 := by
  unfold pp_T pp_L at *
  grind
theorem sv_p2 {c : Bool} {A B : Nat} {w : Int} {t : Nat} (h1 : -20 ≤ w) (h2 : w ≤ 20) (hc : c = true) (e1 : ¬ pp_T c A B w (-4000) B t = 1048576) (e2 : ¬ pp_T c A B w (-4000) B t = -4000) : B = t ∧ ¬ pp_L c A B w B ∧ pp_T c A B w (-4000) B t = 0 := by
  unfold pp_T pp_L at *
  grind
abbrev sv_A (c : Bool) (A B : Nat) (w : Int) (s t : Nat) : Prop := c = true ∧ A = s ∧ B = t ∧ (¬ A = B ∨ w = 0)
theorem sv_q0 {c : Bool} {A B : Nat} {w : Int} {s t : Nat} (h1 : -20 ≤ w) (h2 : w ≤ 20) (e : pp_T c A B w (-4000) s t = 1048576 ∨ pp_T c A B w (-4000) s t = -4000) : ¬ sv_A c A B w s t := by
  unfold pp_T pp_L at *
  unfold sv_A
  grind
theorem sv_q1 {c : Bool} {A B : Nat} {w : Int} {s t : Nat} (h1 : -20 ≤ w) (h2 : w ≤ 20) (e : pp_T c A B w (-4000) s A = 1048576 ∨ pp_T c A B w (-4000) s A = -4000) : ¬ sv_A c A B w s t := by
  unfold pp_T pp_L at *
  unfold sv_A
  grind
theorem sv_q2 {c : Bool} {A B : Nat} {w : Int} {s t : Nat} (h1 : -20 ≤ w) (h2 : w ≤ 20) (e : pp_T c A B w (-4000) B t = 1048576 ∨ pp_T c A B w (-4000) B t = -4000) : ¬ sv_A c A B w s t := by
  unfold pp_T pp_L at *
  unfold sv_A
  grind
theorem sv_q3 {c : Bool} {A B : Nat} {w : Int} (h1 : -20 ≤ w) (h2 : w ≤ 20) (hc : c = true) (hL : ¬ pp_L c A B w A) : 0 + w + 0 = pp_T c A B w (-4000) A B ↔ sv_A c A B w A B := by
  unfold pp_T pp_L at *
  unfold sv_A
  grind
/-- tightArcs -/
theorem sv_tight {post : Int32 → Prop} (g : gg_G c A B w f0 a1 a2 a3) (h : tb_P c A B w (-4000) a4) {s t : Nat} (hs : s < 7) (ht : t < 7) (H : post (if sv_A c A B w s t then 1 else 0)) {p0 p1 : Int32} (e0 : p0 = nI s) (e1 : p1 = nI t) : wpX_tightArcs post (f0, f1, f2, f3, a1, a2, a3, a4, a5, a6, a7, a8, a9, a10, a11, a12, a13, a14, a15, a16, a17, a18, a19) p0 p1 := by
  subst e0 e1
  obtain ⟨hA, hB, h1, h2⟩ := g.2.1
  refine zz_arc c (fun n i u => wX_tightArcs_5 post (nI s) (nI t) f0 f1 f2 f3 a1 a2 a3 a4 a5 a6 a7 a8 a9 a10 a11 a12 a13 a14 a15 a16 a17 a18 a19 n u (nI i)) (fun u => u = if sv_A c A B w s t then 1 else 0) 0
    (fun n u k => pk_le 20 20 (fun _ => by rw [k]; exact H) (fun z => absurd z (by omega)))
    (fun n i u hi hi2 hw => pk_le 20 i (fun z => absurd z (by omega)) (fun _ => gg_has0 g hi hi2 (br_t rfl (nm_r (nI_1 i) hw))))
    (fun hc => (if_neg (fun z => absurd (hc.symm.trans z.1) (by decide))).symm)
    (fun hc n hw => pk_le 20 0 (fun z => absurd z (by omega)) (fun _ => gg_has1 g hc (br_f (by decide) ⟨pk_in 0 20 (by omega), ?_⟩)))
  refine sv_fin g h hs hA (fun z1 z2 => br_f (by decide) ⟨pk_in 0 20 (by omega), ?_⟩) (fun z => br_t rfl (nm_r (nI_1 0) (hw _ (if_neg (sv_q1 h1 h2 z)).symm))) rfl (gg_a1 g)
  refine sv_fin g h hB ht (fun z3 z4 => br_f (by decide) ?_) (fun z => br_t rfl (nm_r (nI_1 0) (hw _ (if_neg (sv_q2 h1 h2 z)).symm))) (gg_a2 g) rfl
  obtain ⟨es, hL, k1⟩ := sv_p1 h1 h2 hc z1 z2
  obtain ⟨et, hL2, k2⟩ := sv_p2 h1 h2 hc z3 z4
  have b := tb_b (c := c) (A := A) (B := B) (z := -4000) h1 h2 (by omega) (by omega) s t
  have c1 : a4 (nI s * 7 + a1 (nI 0).toNatClampNeg).toNatClampNeg = zz_I 0 := by
    rw [gg_a1 g, zz_cix (by omega), tb_at h hs hA, k1]
  have c2 : a4 (a2 (nI 0).toNatClampNeg * 7 + nI t).toNatClampNeg = zz_I 0 := by
    rw [gg_a2 g, zz_cix (by omega), tb_at h hB ht, k2]
  have c3 : a4 (nI s * 7 + nI t).toNatClampNeg = zz_I (pp_T c A B w (-4000) s t) := by
    rw [zz_cix (by omega), tb_at h hs ht]
  subst es et
  have q := sv_q3 (A := s) (B := B) h1 h2 hc hL
  exact ⟨pk_in 0 20 (by omega), pk_in (s * 7 + s) 49 (by omega) (by rw [gg_a1 g, zz_ix]), pk_in 0 20 (by omega), pk_in 0 20 (by omega), pk_in (B * 7 + B) 49 (by omega) (by rw [gg_a2 g, zz_ix]), nm_r (e' := zz_I (0 + w + 0)) (by rw [c1, c2, gg_a3 g, zz_add, zz_add]) ⟨pk_in (s * 7 + B) 49 (by omega) (zz_ix s B), zz_eq (0 + w + 0) (pp_T c s B w (-4000) s B)
    (fun z => nm_r (e' := 1) (by decide) (nm_r (nI_1 0) (hw _ (if_pos (q.mp z)).symm)))
    (fun z => nm_r (e' := 0) (by decide) (nm_r (nI_1 0) (hw _ (if_neg (fun t => z (q.mpr t))).symm))) rfl c3 ⟨by omega, by omega⟩ ⟨by omega, by omega⟩⟩⟩
/-- on -/
theorem sv_on {post : Int32 → St2 → Prop} (g : gg_G c A B w f0 a1 a2 a3) {p0 p1 : Int32}
    (H1 : ∀ s t, s < 7 → t < 7 → p0 = nI s → p1 = nI t → ∀ x1 x2 x3 y4 y5 y6 y7 y8 y9 y10 y11 y12 y13 y14 y15 y16 y17 y18 y19, post (if sv_A c A B w s t then 1 else 0) (f0, x1, x2, x3, a1, a2, a3, y4, y5, y6, y7, y8, y9, y10, y11, y12, y13, y14, y15, y16, y17, y18, y19))
    (H0 : ¬ (la_pt p0 7 ∧ la_pt p1 7) → ∀ x1 x2 x3 y4 y5 y6 y7 y8 y9 y10 y11 y12 y13 y14 y15 y16 y17 y18 y19, post (-1000) (f0, x1, x2, x3, a1, a2, a3, y4, y5, y6, y7, y8, y9, y10, y11, y12, y13, y14, y15, y16, y17, y18, y19)) : wpX_on post (f0, f1, f2, f3, a1, a2, a3, a4, a5, a6, a7, a8, a9, a10, a11, a12, a13, a14, a15, a16, a17, a18, a19) p0 p1 := by
  obtain ⟨hA, hB, h1, h2⟩ := id g.2.1
  unfold wpX_on
  refine la_point (fun z1 => br_f (by decide) (la_point (fun z2 => br_f (by decide) ?_) (fun z2 => br_t rfl (H0 (fun t => z2 t.2) _ _ _ _ _ _ _ _ _ _ _ _ _ _ _ _ _ _ _)))) (fun z1 => br_t rfl (H0 (fun t => z1 t.1) _ _ _ _ _ _ _ _ _ _ _ _ _ _ _ _ _ _ _))
  obtain ⟨s, hs, es⟩ := z1
  obtain ⟨t, ht, et⟩ := z2
  refine sv_solve g (e := 2) (by omega) (fun x1 x2 x3 y4 y5 y6 y7 y8 y9 y10 y11 y12 y13 y14 y15 y16 y17 y18 y19 h => sv_fin g h hs ht (fun z1 z2 => br_f (by decide) (sv_tight g h hs ht (H1 s t hs ht es et _ _ _ _ _ _ _ _ _ _ _ _ _ _ _ _ _ _ _) es et)) (fun z => br_t rfl ?_) es et) rfl
  have k := H1 s t hs ht es et x1 x2 x3 y4 y5 y6 y7 y8 y9 y10 y11 y12 y13 y14 y15 y16 y17 y18 y19
  rw [if_neg (sv_q0 h1 h2 z)] at k
  exact k
/-- widest -/
theorem sv_widest {post : Int32 → St2 → Prop} (g : gg_G c A B w f0 a1 a2 a3) (H : ∀ x1 x2 x3 y4 y5 y6 y7 y8 y9 y10 y11 y12 y13 y14 y15 y16 y17 y18 y19, post (zz_I (if c = true ∧ ¬ A = B then w else -3000)) (f0, x1, x2, x3, a1, a2, a3, y4, y5, y6, y7, y8, y9, y10, y11, y12, y13, y14, y15, y16, y17, y18, y19)) : wpX_widest post (f0, f1, f2, f3, a1, a2, a3, a4, a5, a6, a7, a8, a9, a10, a11, a12, a13, a14, a15, a16, a17, a18, a19) := by
  obtain ⟨hA, hB, h1, h2⟩ := id g.2.1
  unfold wpX_widest
  refine sv_solve g (e := 2) (by omega) (fun x1 x2 x3 y4 y5 y6 y7 y8 y9 y10 y11 y12 y13 y14 y15 y16 y17 y18 y19 h => ?_) rfl
  have H' := H x1 x2 x3 y4 y5 y6 y7 y8 y9 y10 y11 y12 y13 y14 y15 y16 y17 y18 y19
  have skip : ∀ {i : Nat}, i < 49 → (i / 7 = i % 7 ∨ pp_T c A B w (-4000) (i / 7) (i % 7) = 1048576 ∨ pp_T c A B w (-4000) (i / 7) (i % 7) = -4000) → ¬ (c = true ∧ ¬ A = B ∧ A * 7 + B = i) := by
    intro i hi k t
    obtain ⟨t1, t2, t3⟩ := t
    have q1 : i / 7 = A := by omega
    have q2 : i % 7 = B := by omega
    rw [q1, q2] at k
    unfold pp_T at k
    rw [if_neg t2, if_pos ⟨t1, rfl, rfl⟩] at k
    omega
  have take : ∀ {i : Nat}, i < 49 → ¬ i / 7 = i % 7 → ¬ pp_T c A B w (-4000) (i / 7) (i % 7) = 1048576 → c = true ∧ ¬ A = B ∧ A * 7 + B = i ∧ pp_T c A B w (-4000) (i / 7) (i % 7) = w := by
    intro i hi k1 k2
    unfold pp_T at k2 ⊢
    rw [if_neg k1] at k2 ⊢
    by_cases e : c = true ∧ A = i / 7 ∧ B = i % 7
    · rw [if_pos e]
      exact ⟨e.1, by omega, by omega, rfl⟩
    · rw [if_neg e] at k2
      exact absurd rfl k2
  refine pk_loop (fun n i b => wX_widest_11 post f0 x1 x2 x3 a1 a2 a3 y4 y5 y6 y7 y8 y9 y10 y11 y12 y13 y14 y15 y16 y17 y18 y19 n b (nI i)) (fun i b => b = zz_I (if c = true ∧ ¬ A = B ∧ A * 7 + B < i then w else -3000)) 49 0 (-3000) (by omega) (by rw [if_neg (fun z => absurd z.2.2 (by omega))]; exact zz_none)
    (fun n b k => pk_le 49 49 (fun _ => ?_) (fun z => absurd z (by omega)))
    (fun n i b hi k hw => pk_le 49 i (fun z => absurd z (by omega)) (fun _ => ⟨by decide, by decide, ?_⟩))
  · have e : (if c = true ∧ ¬ A = B ∧ A * 7 + B < 49 then w else -3000) = (if c = true ∧ ¬ A = B then w else -3000) := by
      by_cases q : c = true ∧ ¬ A = B
      · rw [if_pos q, if_pos ⟨q.1, q.2, by omega⟩]
      · rw [if_neg q, if_neg (fun t => q ⟨t.1, t.2.1⟩)]
    rw [k, e]
    exact H'
  · have c3 : y4 (nI i).toNatClampNeg = zz_I (pp_T c A B w (-4000) (i / 7) (i % 7)) := zz_at (h i hi)
    have b3 := tb_b (c := c) (A := A) (B := B) (z := -4000) h1 h2 (by omega) (by omega) (i / 7) (i % 7)
    have same : ¬ (c = true ∧ ¬ A = B ∧ A * 7 + B = i) → b = zz_I (if c = true ∧ ¬ A = B ∧ A * 7 + B < i + 1 then w else -3000) := by
      intro q
      rw [k]
      by_cases q2 : c = true ∧ ¬ A = B ∧ A * 7 + B < i
      · rw [if_pos q2, if_pos ⟨q2.1, q2.2.1, by omega⟩]
      · rw [if_neg q2, if_neg (fun t => ?_)]
        by_cases q3 : A * 7 + B = i
        · exact q ⟨t.1, t.2.1, q3⟩
        · exact q2 ⟨t.1, t.2.1, by omega⟩
    refine pk_eq (i / 7) (i % 7) (fun z => br_t rfl (nm_r (nI_1 i) (hw b (same (skip hi (Or.inl z)))))) (fun z => ⟨pk_in i 49 hi, zz_eq (pp_T c A B w (-4000) (i / 7) (i % 7)) 1048576 (fun z2 => br_t rfl (nm_r (nI_1 i) (hw b (same (skip hi (Or.inr (Or.inl z2))))))) (fun z2 => ⟨pk_in i 49 hi, zz_eq (pp_T c A B w (-4000) (i / 7) (i % 7)) (-4000) (fun z3 => br_t rfl (nm_r (nI_1 i) (hw b (same (skip hi (Or.inr (Or.inr z3))))))) (fun z3 => br_f (by decide) ?_) c3 zz_low⟩) c3 zz_far⟩) (zz_dv (by omega)) (zz_rm (by omega))
    obtain ⟨q1, q2, q3, q4⟩ := take hi z z2
    have kb : b = -3000 := by
      rw [k, if_neg (fun t => absurd t.2.2 (by omega))]
      exact zz_none.symm
    exact br_t kb ⟨pk_in i 49 hi, nm_r c3 (nm_r (nI_1 i) (hw _ (by rw [q4, if_pos ⟨q1, q2, by omega⟩])))⟩
/-- calm -/
theorem sv_calm {post : Int32 → St2 → Prop} (g : gg_G c A B w f0 a1 a2 a3) (H : ∀ x1 x2 x3 y4 y5 y6 y7 y8 y9 y10 y11 y12 y13 y14 y15 y16 y17 y18 y19, post (if pp_L c A B w A then 0 else 1) (f0, x1, x2, x3, a1, a2, a3, y4, y5, y6, y7, y8, y9, y10, y11, y12, y13, y14, y15, y16, y17, y18, y19)) : wpX_calm post (f0, f1, f2, f3, a1, a2, a3, a4, a5, a6, a7, a8, a9, a10, a11, a12, a13, a14, a15, a16, a17, a18, a19) := by
  obtain ⟨hA, hB, h1, h2⟩ := id g.2.1
  unfold wpX_calm
  refine sv_solve g (e := 4) (by omega) (fun x1 x2 x3 y4 y5 y6 y7 y8 y9 y10 y11 y12 y13 y14 y15 y16 y17 y18 y19 h => ?_) rfl
  have H' := H x1 x2 x3 y4 y5 y6 y7 y8 y9 y10 y11 y12 y13 y14 y15 y16 y17 y18 y19
  refine pk_loop (fun n i b => wX_calm_9 post f0 x1 x2 x3 a1 a2 a3 y4 y5 y6 y7 y8 y9 y10 y11 y12 y13 y14 y15 y16 y17 y18 y19 n b (nI i)) (fun i b => b = if pp_L c A B w A ∧ A < i then 0 else 1) 7 0 1 (by omega) (if_neg (fun z => absurd z.2 (by omega))).symm
    (fun n b k => pk_le 7 7 (fun _ => ?_) (fun z => absurd z (by omega)))
    (fun n i b hi k hw => pk_le 7 i (fun z => absurd z (by omega)) (fun _ => ?_))
  · by_cases hL : pp_L c A B w A
    · rw [if_pos ⟨hL, hA⟩] at k
      rw [if_pos hL] at H'
      subst k
      exact ⟨rfl, H'⟩
    · rw [if_neg (fun z => hL z.1)] at k
      rw [if_neg hL] at H'
      subst k
      exact ⟨rfl, H'⟩
  · have c3 : y4 (nI i * 7 + nI i).toNatClampNeg = zz_I (pp_T c A B w (-4000) i i) := by
      rw [zz_cix (by omega)]
      exact tb_at h hi hi
    have b3 := tb_b (c := c) (A := A) (B := B) (z := -4000) h1 h2 (by omega) (by omega) i i
    by_cases hq : pp_L c A B w A ∧ A < i
    · rw [if_pos hq] at k
      exact br_t k (nm_r (nI_1 i) (hw 0 (if_pos ⟨hq.1, by omega⟩).symm))
    · rw [if_neg hq] at k
      refine br_f (by rw [k]; decide) ⟨pk_in (i * 7 + i) 49 (by omega) (zz_ix i i), zz_eq (pp_T c A B w (-4000) i i) 0 (fun z => nm_r (nI_1 i) (hw 1 ?_)) (fun z => nm_r (nI_1 i) (hw 0 ?_)) c3 zz_0⟩
      · refine (if_neg (fun t => ?_)).symm
        by_cases e : A = i
        · subst e
          rw [pp_Tl _ t.1] at z
          omega
        · exact hq ⟨t.1, by omega⟩
      · refine (if_pos ?_).symm
        unfold pp_T at z
        rw [if_pos rfl] at z
        by_cases hL : pp_L c A B w i
        · have e : A = i := hL.2.1
          exact ⟨⟨hL.1, rfl, hL.2.2.1.trans e.symm, hL.2.2.2⟩, by omega⟩
        · rw [if_neg hL] at z
          exact absurd rfl z
end
end
section
/-! the least weights of walks of n arcs, after j rounds -/
def pp_B (c : Bool) (A B : Nat) (w : Int) (j n p : Nat) : Int := if n = 0 then 0 else if n ≤ j ∧ c = true ∧ p = B ∧ (A = B ∨ n = 1) then pp_m w n else 1048576
theorem pp_Bb {c : Bool} {A B : Nat} {w : Int} (h1 : -20 ≤ w) (h2 : w ≤ 20) (j n p : Nat) (hn : n ≤ 7) : -140 ≤ pp_B c A B w j n p ∧ pp_B c A B w j n p ≤ 1048576 := by
  have h := pp_mb h1 h2 n
  unfold pp_B
  split
  · omega
  · split <;> omega
theorem pp_Bf {A B : Nat} {w : Int} (j n p : Nat) : pp_B false A B w j n p = pp_B false A B w 0 n p := by
  unfold pp_B
  grind
theorem pp_Bt {A B : Nat} {w : Int} {j : Nat} (hx : pp_B true A B w j j A < 1048576) (n p : Nat) : (if n = j + 1 ∧ p = B then pp_B true A B w j j A + w else pp_B true A B w j n p) = pp_B true A B w (j + 1) n p := by
  have e : pp_m w (j + 1) = pp_m w j + w := rfl
  have e0 : pp_m w 0 = 0 := rfl
  unfold pp_B at *
  grind
theorem pp_Bn {A B : Nat} {w : Int} {j : Nat} (h1 : -20 ≤ w) (h2 : w ≤ 20) (hj : j ≤ 7) (hx : 1048576 ≤ pp_B true A B w j j A) (n p : Nat) : pp_B true A B w j n p = pp_B true A B w (j + 1) n p := by
  have h := pp_mb h1 h2 j
  unfold pp_B at *
  grind
theorem pp_Bs {c : Bool} {A B : Nat} {w : Int} (h1 : -20 ≤ w) (h2 : w ≤ 20) {j n p : Nat} (hn : n ≤ 7) (h : pp_B c A B w j n p < 1048576) : pp_B c A B w j n p ≤ 140 := by
  have hm := pp_mb h1 h2 n
  unfold pp_B at *
  split
  · omega
  · split
    · omega
    · rename_i q1 q2
      rw [if_neg q1, if_neg q2] at h
      omega
theorem pp_Bn1 {c : Bool} {A B : Nat} {w : Int} (j p : Nat) : pp_B c A B w j (j + 1) p = 1048576 := by
  unfold pp_B
  rw [if_neg (by omega), if_neg (fun z => absurd z.1 (by omega))]
section
variable {c : Bool} {A B : Nat} {w : Int} {f0 f1 f2 f3 : Int32} {a1 a2 a3 a4 a5 a6 a7 a8 a9 a10 a11 a12 a13 a14 a15 a16 a17 a18 a19 : Nat → Int32}
/-- countArcs: one round -/
theorem ca_42 {post : St2 → Prop} {J : Int32 → (Nat → Int32) → (Nat → Int32) → (Nat → Int32) → (Nat → Int32) → (Nat → Int32) → (Nat → Int32) → (Nat → Int32) → (Nat → Int32) → (Nat → Int32) → (Nat → Int32) → (Nat → Int32) → (Nat → Int32) → (Nat → Int32) → (Nat → Int32) → (Nat → Int32) → (Nat → Int32) → (Nat → Int32) → (Nat → Int32) → (Nat → Int32) → Prop} (g : gg_G c A B w f0 a1 a2 a3) {j : Nat} (hj : j ≤ 6) (h : ∀ i, i < 56 → a19 i = zz_I (pp_B c A B w j (i / 7) (i % 7)))
    (H : ∀ u, (∀ i, i < 56 → u i = zz_I (pp_B c A B w (j + 1) (i / 7) (i % 7))) → J (nI (j + 1) + 1) a1 a2 a3 a4 a5 a6 a7 a8 a9 a10 a11 a12 a13 a14 a15 a16 a17 a18 u) : ∃ n, wX_countArcs_42 post J (nI (j + 1)) f0 f1 f2 f3 n 0 a1 a2 a3 a4 a5 a6 a7 a8 a9 a10 a11 a12 a13 a14 a15 a16 a17 a18 a19 := by
  obtain ⟨hA, hB, h1, h2⟩ := g.2.1
  refine zz_arc c (fun n i u => wX_countArcs_42 post J (nI (j + 1)) f0 f1 f2 f3 n (nI i) a1 a2 a3 a4 a5 a6 a7 a8 a9 a10 a11 a12 a13 a14 a15 a16 a17 a18 u) (fun u => ∀ i, i < 56 → u i = zz_I (pp_B c A B w (j + 1) (i / 7) (i % 7))) a19
    (fun n u k => pk_le 20 20 (fun _ => nm_e (H u k)) (fun z => absurd z (by omega)))
    (fun n i u hi hi2 hw => pk_le 20 i (fun z => absurd z (by omega)) (fun _ => ?_))
    (fun hc i hi => ?_)
    (fun hc n hw => pk_le 20 0 (fun z => absurd z (by omega)) (fun _ => ?_))
  · obtain ⟨q, hq, e2⟩ := gg_k2 g hi2
    have e : nI (j + 1) * 7 + a2 (nI i).toNatClampNeg = nI ((j + 1) * 7 + q) := by rw [e2, zz_ix]
    exact gg_has0 g hi hi2 (br_t rfl ⟨pk_in i 20 hi2, nm_r e (br_t (by decide) ⟨pk_in ((j + 1) * 7 + q) 56 (by omega), pk_in ((j + 1) * 7 + q) 56 (by omega), nm_r (zz_self u _) (nm_r (nI_1 i) hw)⟩)⟩)
  · subst hc
    rw [h i hi, pp_Bf j, pp_Bf (j + 1)]
  · subst hc
    have bx := pp_Bb (c := true) (A := A) (B := B) h1 h2 j j A (by omega)
    have ei : (nI (j + 1) - 1) * 7 + a1 (nI 0).toNatClampNeg = nI (j * 7 + A) := by rw [gg_a1 g, nI_pred, zz_ix]
    have ez : a19 ((nI (j + 1) - 1) * 7 + a1 (nI 0).toNatClampNeg).toNatClampNeg = zz_I (pp_B true A B w j j A) := by
      rw [ei, zz_cl (by omega), h (j * 7 + A) (by omega), show (j * 7 + A) / 7 = j by omega, show (j * 7 + A) % 7 = A by omega]
    have e4 : nI (j + 1) * 7 + a2 (nI 0).toNatClampNeg = nI ((j + 1) * 7 + B) := by rw [gg_a2 g, zz_ix]
    have ec : a19 (nI ((j + 1) * 7 + B)).toNatClampNeg = zz_I 1048576 := by
      rw [zz_cl (by omega), h ((j + 1) * 7 + B) (by omega), show ((j + 1) * 7 + B) / 7 = j + 1 by omega, pp_Bn1]
    have es : a19 ((nI (j + 1) - 1) * 7 + a1 (nI 0).toNatClampNeg).toNatClampNeg + a3 (nI 0).toNatClampNeg = zz_I (pp_B true A B w j j A + w) := by rw [ez, gg_a3 g, zz_add]
    have ip : (j + 1) * 7 + B < 56 := by omega
    refine gg_has1 g rfl (br_f (by decide) ⟨pk_in 0 20 (by omega), pk_in (j * 7 + A) 56 (by omega) ei, pk_in 0 20 (by omega), nm_r e4 (zz_le 1048576 (pp_B true A B w j j A)
      (fun z => ⟨pk_in ((j + 1) * 7 + B) 56 ip, pk_in ((j + 1) * 7 + B) 56 ip, nm_r (zz_self a19 _) (nm_r (nI_1 0) (hw _ (fun i hi => by rw [h i hi, pp_Bn h1 h2 (by omega) z])))⟩)
      (fun z => ⟨pk_in 0 20 (by omega), pk_in ((j + 1) * 7 + B) 56 ip, zz_le 1048576 (pp_B true A B w j j A + w) (fun z2 => ?_) (fun z2 => ⟨pk_in 0 20 (by omega), pk_in ((j + 1) * 7 + B) 56 ip, nm_r (e' := upd a19 ((j + 1) * 7 + B) (zz_I (pp_B true A B w j j A + w))) (by rw [es, zz_cl (by omega)]) (nm_r (nI_1 0) (hw _ (fun i hi => ?_)))⟩) ec es ⟨by omega, by omega⟩ ⟨by omega, by omega⟩⟩) zz_far ez)⟩)
    · exact absurd (pp_Bs h1 h2 (by omega) z) (by omega)
    · rw [← pp_Bt z]
      by_cases e : i = (j + 1) * 7 + B
      · rw [e, pk_us, show ((j + 1) * 7 + B) / 7 = j + 1 by omega, show ((j + 1) * 7 + B) % 7 = B by omega, if_pos ⟨rfl, rfl⟩]
      · rw [pk_un e, if_neg (by omega)]
        exact h i hi
theorem ca_go {post : St2 → Prop} (g : gg_G c A B w f0 a1 a2 a3) (H : ∀ u, (∀ i, i < 56 → u i = zz_I (pp_B c A B w 7 (i / 7) (i % 7))) → post (f0, f1, f2, f3, a1, a2, a3, a4, a5, a6, a7, a8, a9, a10, a11, a12, a13, a14, a15, a16, a17, a18, u)) : wpX_countArcs post (f0, f1, f2, f3, a1, a2, a3, a4, a5, a6, a7, a8, a9, a10, a11, a12, a13, a14, a15, a16, a17, a18, a19) := by
  refine pk_loop (fun n i u => wX_countArcs_2 post f0 f1 f2 f3 n (nI i) a1 a2 a3 a4 a5 a6 a7 a8 a9 a10 a11 a12 a13 a14 a15 a16 a17 a18 u) (fun i u => ∀ k, k < i → u k = zz_I (pp_B c A B w 0 (k / 7) (k % 7))) 56 0 a19 (by omega) lt_0
    (fun n u h => pk_le 56 56 (fun _ => ?_) (fun z => absurd z (by omega)))
    (fun n i u hi h hw => pk_le 56 i (fun z => absurd z (by omega)) (fun _ => pk_le 7 i
      (fun z => ⟨pk_in i 56 hi, nm_e (nm_r (nI_1 i) (hw _ (zz_fill (zz_cl (by omega)) h ?_)))⟩)
      (fun z => ⟨pk_in i 56 hi, nm_e (nm_r (nI_1 i) (hw _ (zz_fill (zz_cl (by omega)) h ?_)))⟩)))
  · exact pk_loop (fun n j u => wX_countArcs_34 post f0 f1 f2 f3 n (nI (j + 1)) a1 a2 a3 a4 a5 a6 a7 a8 a9 a10 a11 a12 a13 a14 a15 a16 a17 a18 u) (fun j u => ∀ i, i < 56 → u i = zz_I (pp_B c A B w j (i / 7) (i % 7))) 7 0 u (by omega) h
      (fun n u h => pk_lt 7 8 (fun _ => H u h) (fun z => absurd z (by omega)))
      (fun n j u hj h hw => pk_lt 7 (j + 1) (fun z => absurd z (by omega)) (fun _ => ca_42 g (by omega) h (fun u' h' => by rw [nI_1]; exact hw u' h')))
  · unfold pp_B
    rw [if_neg (by omega), if_neg (fun t => absurd t.1 (by omega))]
    exact zz_far
  · unfold pp_B
    rw [if_pos (by omega)]
    exact zz_0
end
end
section
section
variable {c : Bool} {A B : Nat} {w : Int} {f0 f1 f2 f3 : Int32} {a1 a2 a3 a4 a5 a6 a7 a8 a9 a10 a11 a12 a13 a14 a15 a16 a17 a18 a19 : Nat → Int32}
theorem gs_eq (w : Int) (i : Nat) : (7 * w - (i : Int) * w) * 7 = 7 * w * (7 - (i : Int)) := by grind
theorem gs_m {c : Bool} {A : Nat} {w : Int} (hc : c = true) {i : Nat} (hi : i ≤ 7) : pp_B c A A w 7 i A = (i : Int) * w := by
  rw [← pp_mm]
  unfold pp_B
  by_cases e : i = 0
  · rw [if_pos e, e]
    rfl
  · rw [if_neg e, if_pos ⟨hi, hc, rfl, Or.inl rfl⟩]
/-- greatestSlope at a loop -/
theorem gs_go {post : St2 → Prop} (hA : A < 7) (h1 : -20 ≤ w) (h2 : w ≤ 20) (hc : c = true) (h : ∀ i, i < 56 → a19 i = zz_I (pp_B c A A w 7 (i / 7) (i % 7)))
    (H : post (f0, f1, (zz_I (7 * w)), (zz_I 7), a1, a2, a3, a4, a5, a6, a7, a8, a9, a10, a11, a12, a13, a14, a15, a16, a17, a18, a19)) : wpX_greatestSlope post (f0, f1, f2, f3, a1, a2, a3, a4, a5, a6, a7, a8, a9, a10, a11, a12, a13, a14, a15, a16, a17, a18, a19) (nI A) := by
  have e49 : (49 : Int32) + nI A = nI (49 + A) := nI_add 49 A
  have at' : ∀ i, i ≤ 7 → a19 (i * 7 + A) = zz_I ((i : Int) * w) := by
    intro i hi
    rw [h (i * 7 + A) (by omega), show (i * 7 + A) / 7 = i by omega, show (i * 7 + A) % 7 = A by omega, gs_m hc hi]
  have e7 : a19 ((49 : Int32) + nI A).toNatClampNeg = zz_I (7 * w) := by
    rw [e49, zz_cl (by omega)]
    exact at' 7 (by omega)
  refine ⟨pk_in (49 + A) 56 (by omega) e49, nm_r e7 ?_⟩
  refine pk_loop (σ := Int32 × Int32) (fun n i u => wX_greatestSlope_23 post (nI A) (zz_I (7 * w)) f0 f1 a1 a2 a3 a4 a5 a6 a7 a8 a9 a10 a11 a12 a13 a14 a15 a16 a17 a18 a19 n (nI i) u.1 u.2) (fun i u => (i = 0 → u.1 = zz_I (-1048576) ∧ u.2 = zz_I 1) ∧ (1 ≤ i → u.1 = zz_I (7 * w) ∧ u.2 = zz_I 7)) 7 0 (-1048576, 1) (by omega) ⟨fun _ => ⟨by decide, by decide⟩, fun z => absurd z (by omega)⟩
    (fun n u k => pk_le 7 7 (fun _ => ?_) (fun z => absurd z (by omega)))
    (fun n i u hi k hw => pk_le 7 i (fun z => absurd z (by omega)) (fun _ => ?_))
  · rw [(k.2 (by omega)).1, (k.2 (by omega)).2]
    exact H
  · have hm := pp_mb h1 h2 i
    rw [pp_mm] at hm
    have e6 : (7 : Int32) - nI i = zz_I (7 - (i : Int)) := by rw [zz_7, zz_nat, zz_sub]
    refine ⟨pk_in (i * 7 + A) 56 (by omega) (zz_ix i A), nm_r (e' := zz_I ((i : Int) * w)) (by rw [zz_cix (by omega)]; exact at' i (by omega)) (nm_r (e' := zz_I (7 * w - (i : Int) * w)) (by rw [zz_sub]) (nm_r e6 (zz_le 1048576 ((i : Int) * w) (fun z => absurd z (by omega)) (fun _ => ?_) zz_far rfl ⟨by omega, by omega⟩ ⟨by omega, by omega⟩)))⟩
    by_cases e : i = 0
    · obtain ⟨u1, u2⟩ := k.1 e
      subst e
      refine zz_le (7 * w) (-7340032) (fun z => absurd z (by omega)) (fun _ => nm_r (nI_1 0) (hw (_, _) ⟨fun z => absurd z (by omega), fun _ => ⟨?_, ?_⟩⟩)) ?_ ?_
      · exact congrArg zz_I (by simp)
      · exact congrArg zz_I (by simp)
      · rw [u2, zz_mul]
        exact congrArg zz_I (by simp)
      · rw [u1, zz_mul]
        exact congrArg zz_I (by simp)
    · obtain ⟨u1, u2⟩ := k.2 (by omega)
      refine zz_le ((7 * w - (i : Int) * w) * 7) ((7 * w - (i : Int) * w) * 7) (fun _ => nm_r (nI_1 i) (hw u ⟨fun z => absurd z (by omega), fun _ => ⟨u1, u2⟩⟩)) (fun z => absurd z (by omega)) (by rw [u2, zz_mul]) (by rw [u1, zz_mul, gs_eq]) ⟨by omega, by omega⟩ ⟨by omega, by omega⟩
/-- findMeanByCounts -/
theorem fc_go {post : Int32 → St2 → Prop} (g : gg_G c A B w f0 a1 a2 a3)
    (H1 : c = true ∧ A = B → ∀ x1 y4 y5 y6 y7 y8 y9 y10 y11 y12 y13 y14 y15 y16 y17 y18 y19, post 1 (f0, x1, zz_I (7 * w), zz_I 7, a1, a2, a3, y4, y5, y6, y7, y8, y9, y10, y11, y12, y13, y14, y15, y16, y17, y18, y19))
    (H0 : ¬ (c = true ∧ A = B) → ∀ x1 x2 x3 y4 y5 y6 y7 y8 y9 y10 y11 y12 y13 y14 y15 y16 y17 y18 y19, post 0 (f0, x1, x2, x3, a1, a2, a3, y4, y5, y6, y7, y8, y9, y10, y11, y12, y13, y14, y15, y16, y17, y18, y19)) : wpX_findMeanByCounts post (f0, f1, f2, f3, a1, a2, a3, a4, a5, a6, a7, a8, a9, a10, a11, a12, a13, a14, a15, a16, a17, a18, a19) := by
  obtain ⟨hA, hB, h1, h2⟩ := id g.2.1
  refine ca_go g (fun q hq => pk_loop (σ := Int32 × Int32 × Int32 × Int32) (fun n v u => wX_findMeanByCounts_11 post n u.1 u.2.1 (nI v) f0 f1 u.2.2.1 u.2.2.2 a1 a2 a3 a4 a5 a6 a7 a8 a9 a10 a11 a12 a13 a14 a15 a16 a17 a18 q)
    (fun v u => u.1 = zz_I (if (c = true ∧ A = B) ∧ A < v then 7 * w else 1048576) ∧ u.2.1 = zz_I (if (c = true ∧ A = B) ∧ A < v then 7 else 1)) 7 0 (1048576, 1, f2, f3) (by omega) ⟨by rw [if_neg (fun z => absurd z.2 (by omega))]; exact zz_far, by rw [if_neg (fun z => absurd z.2 (by omega))]; exact zz_1⟩
    (fun n u k => pk_le 7 7 (fun _ => ?_) (fun z => absurd z (by omega)))
    (fun n v u hv k hw => pk_le 7 v (fun z => absurd z (by omega)) (fun _ => ?_)))
  · by_cases e : c = true ∧ A = B
    · rw [if_pos ⟨e, hA⟩, if_pos ⟨e, hA⟩] at k
      refine zz_eq (7 * w) 1048576 (fun z => absurd z (by omega)) (fun _ => ?_) k.1 zz_far
      rw [k.1, k.2]
      exact H1 e _ _ _ _ _ _ _ _ _ _ _ _ _ _ _ _ _
    · rw [if_neg (fun z => e z.1)] at k
      exact zz_eq 1048576 1048576 (fun _ => H0 e _ _ _ _ _ _ _ _ _ _ _ _ _ _ _ _ _ _ _) (fun z => absurd rfl z) k.1 zz_far
  · have e49 : (49 : Int32) + nI v = nI (49 + v) := nI_add 49 v
    have ev : q ((49 : Int32) + nI v).toNatClampNeg = zz_I (pp_B c A B w 7 7 v) := by
      rw [e49, zz_cl (by omega), hq (49 + v) (by omega), show (49 + v) / 7 = 7 by omega, show (49 + v) % 7 = v by omega]
    have bv := pp_Bb (c := c) (A := A) (B := B) h1 h2 7 7 v (by omega)
    refine ⟨pk_in (49 + v) 56 (by omega) e49, zz_le 1048576 (pp_B c A B w 7 7 v) (fun z => nm_r (nI_1 v) (hw u ?_)) (fun z => ?_) zz_far ev⟩
    · have hn : ¬ ((c = true ∧ A = B) ∧ A = v) := by
        rintro ⟨⟨t1, t2⟩, t3⟩
        subst t2 t3
        rw [gs_m t1 (by omega)] at z
        omega
      have e : ∀ a b : Int, (if (c = true ∧ A = B) ∧ A < v then a else b) = (if (c = true ∧ A = B) ∧ A < v + 1 then a else b) := by
        intro a b
        by_cases t : (c = true ∧ A = B) ∧ A < v
        · rw [if_pos t, if_pos ⟨t.1, by omega⟩]
        · rw [if_neg t, if_neg (fun t2 => ?_)]
          by_cases t3 : A = v
          · exact hn ⟨t2.1, t3⟩
          · exact t ⟨t2.1, by omega⟩
      rw [← e, ← e]
      exact k
    · have hy : (c = true ∧ A = B) ∧ A = v := by
        unfold pp_B at z
        rw [if_neg (by omega)] at z
        by_cases t : 7 ≤ 7 ∧ c = true ∧ v = B ∧ (A = B ∨ 7 = 1)
        · obtain ⟨_, t1, t2, t3⟩ := t
          rcases t3 with t3 | t3
          · exact ⟨⟨t1, t3⟩, t3.trans t2.symm⟩
          · omega
        · rw [if_neg t] at z
          omega
      obtain ⟨⟨hc, e1⟩, e2⟩ := hy
      subst e1 e2
      rw [if_neg (fun t => absurd t.2 (by omega)), if_neg (fun t => absurd t.2 (by omega))] at k
      refine gs_go hA h1 h2 hc hq (br_t (k.1.trans zz_far.symm) (br_f (by decide) (br_f (by decide) (nm_r (nI_1 A) (hw (zz_I (7 * w), zz_I 7, zz_I (7 * w), zz_I 7) ⟨?_, ?_⟩)))))
      · rw [if_pos ⟨⟨hc, rfl⟩, by omega⟩]
      · rw [if_pos ⟨⟨hc, rfl⟩, by omega⟩]
end
end
section
section
variable {c : Bool} {A B : Nat} {w : Int} {f0 f1 f2 f3 : Int32} {a1 a2 a3 a4 a5 a6 a7 a8 a9 a10 a11 a12 a13 a14 a15 a16 a17 a18 a19 : Nat → Int32}
theorem fb_w {tp : Int} (g : gg_G c A B w f0 a1 a2 a3) (e2 : f2 = zz_I tp) (e3 : f3 = zz_I 1) : a3 (nI 0).toNatClampNeg * f3 - f2 = zz_I (w - tp) := by
  rw [gg_a3 g, e2, e3, zz_mul, zz_sub]
  exact congrArg zz_I (by omega)
/-! findBetterRing: a round that betters nothing; one that does -/
theorem fb_still {post : Int32 → St2 → Prop} {J : Int32 → Int32 → (Nat → Int32) → (Nat → Int32) → (Nat → Int32) → (Nat → Int32) → (Nat → Int32) → (Nat → Int32) → (Nat → Int32) → (Nat → Int32) → (Nat → Int32) → (Nat → Int32) → (Nat → Int32) → (Nat → Int32) → (Nat → Int32) → (Nat → Int32) → (Nat → Int32) → (Nat → Int32) → (Nat → Int32) → (Nat → Int32) → (Nat → Int32) → Prop} {l x2 : Int32} {tp : Int} (g : gg_G c A B w f0 a1 a2 a3) (e2 : f2 = zz_I tp) (e3 : f3 = zz_I 1)
    (hst : c = true → ∃ x y, a6 A = zz_I x ∧ a6 B = zz_I y ∧ y ≤ x + (w - tp) ∧ zz_b (x + (w - tp)) ∧ zz_b y) (H : J l (x2 + 1) a1 a2 a3 a4 a5 a6 a7 a8 a9 a10 a11 a12 a13 a14 a15 a16 a17 a18 a19) : ∃ n, wX_findBetterRing_42 post J x2 f0 f1 f2 f3 n l 0 a1 a2 a3 a4 a5 a6 a7 a8 a9 a10 a11 a12 a13 a14 a15 a16 a17 a18 a19 := by
  obtain ⟨hA, hB, h1, h2⟩ := g.2.1
  refine zz_arc (σ := Unit) c (fun n i _ => wX_findBetterRing_42 post J x2 f0 f1 f2 f3 n l (nI i) a1 a2 a3 a4 a5 a6 a7 a8 a9 a10 a11 a12 a13 a14 a15 a16 a17 a18 a19) (fun _ => True) ()
    (fun n _ _ => pk_le 20 20 (fun _ => nm_e H) (fun z => absurd z (by omega)))
    (fun n i _ hi hi2 hw => pk_le 20 i (fun z => absurd z (by omega)) (fun _ => ⟨pk_in i 20 hi2, nm_e (gg_has0 g hi hi2 (br_t rfl (nm_r (nI_1 i) hw)))⟩))
    (fun _ => trivial)
    (fun hc n hw => pk_le 20 0 (fun z => absurd z (by omega)) (fun _ => ⟨pk_in 0 20 (by omega), nm_r (fb_w g e2 e3) (gg_has1 g hc (br_f (by decide) ⟨pk_in 0 20 (by omega), pk_in A 7 hA (gg_a1 g), pk_in 0 20 (by omega), pk_in B 7 hB (gg_a2 g), ?_⟩))⟩))
  obtain ⟨x, y, k1, k2, k3, b1, b2⟩ := hst hc
  exact zz_le y (x + (w - tp)) (fun _ => nm_r (nI_1 0) (hw () trivial)) (fun z => absurd z (by omega)) (by rw [gg_a2 g]; exact zz_at k2) (by rw [gg_a1 g, zz_at k1, zz_add]) b2 b1
theorem fb_move {post : Int32 → St2 → Prop} {J : Int32 → Int32 → (Nat → Int32) → (Nat → Int32) → (Nat → Int32) → (Nat → Int32) → (Nat → Int32) → (Nat → Int32) → (Nat → Int32) → (Nat → Int32) → (Nat → Int32) → (Nat → Int32) → (Nat → Int32) → (Nat → Int32) → (Nat → Int32) → (Nat → Int32) → (Nat → Int32) → (Nat → Int32) → (Nat → Int32) → (Nat → Int32) → (Nat → Int32) → Prop} {l x2 : Int32} {tp : Int} (g : gg_G c A B w f0 a1 a2 a3) (e2 : f2 = zz_I tp) (e3 : f3 = zz_I 1) (hc : c = true) {x y : Int}
    (k1 : a6 A = zz_I x) (k2 : a6 B = zz_I y) (k3 : x + (w - tp) < y) (b1 : zz_b (x + (w - tp))) (b2 : zz_b y)
    (H : J (nI B) (x2 + 1) a1 a2 a3 a4 a5 (upd a6 B (zz_I (x + (w - tp)))) a7 a8 a9 a10 a11 a12 a13 a14 a15 (upd a16 B (nI 0)) a17 a18 a19) : ∃ n, wX_findBetterRing_42 post J x2 f0 f1 f2 f3 n l 0 a1 a2 a3 a4 a5 a6 a7 a8 a9 a10 a11 a12 a13 a14 a15 a16 a17 a18 a19 := by
  obtain ⟨hA, hB, h1, h2⟩ := g.2.1
  have es : a6 (a1 (nI 0).toNatClampNeg).toNatClampNeg + zz_I (w - tp) = zz_I (x + (w - tp)) := by rw [gg_a1 g, zz_at k1, zz_add]
  refine zz_arc (σ := Int32 × (Nat → Int32) × (Nat → Int32)) c (fun n i u => wX_findBetterRing_42 post J x2 f0 f1 f2 f3 n u.1 (nI i) a1 a2 a3 a4 a5 u.2.1 a7 a8 a9 a10 a11 a12 a13 a14 a15 u.2.2 a17 a18 a19) (fun u => J u.1 (x2 + 1) a1 a2 a3 a4 a5 u.2.1 a7 a8 a9 a10 a11 a12 a13 a14 a15 u.2.2 a17 a18 a19) (l, a6, a16)
    (fun n _ h => pk_le 20 20 (fun _ => nm_e h) (fun z => absurd z (by omega)))
    (fun n i _ hi hi2 hw => pk_le 20 i (fun z => absurd z (by omega)) (fun _ => ⟨pk_in i 20 hi2, nm_e (gg_has0 g hi hi2 (br_t rfl (nm_r (nI_1 i) hw)))⟩))
    (fun hf => absurd (hc.symm.trans hf) (by decide))
    (fun hc n hw => pk_le 20 0 (fun z => absurd z (by omega)) (fun _ => ⟨pk_in 0 20 (by omega), nm_r (fb_w g e2 e3) (gg_has1 g hc (br_f (by decide) ⟨pk_in 0 20 (by omega), pk_in A 7 hA (gg_a1 g), pk_in 0 20 (by omega), pk_in B 7 hB (gg_a2 g), zz_le y (x + (w - tp)) (fun z => absurd z (by omega))
      (fun _ => ⟨pk_in 0 20 (by omega), pk_in 0 20 (by omega), pk_in A 7 hA (gg_a1 g), pk_in B 7 hB (gg_a2 g), nm_r (e' := upd a6 B (zz_I (x + (w - tp)))) ?_ ⟨pk_in 0 20 (by omega), pk_in B 7 hB (gg_a2 g), nm_r (e' := upd a16 B (nI 0)) ?_ ⟨pk_in 0 20 (by omega), nm_r (gg_a2 g) (nm_r (nI_1 0) (hw (_, _, _) H))⟩⟩⟩) (by rw [gg_a2 g]; exact zz_at k2) es b2 b1⟩))⟩))
  · rw [es, gg_a2 g, zz_cl (by omega)]
  · rw [gg_a2 g, zz_cl (by omega), zz_by 0 (by omega)]
/-- no better ring -/
theorem fb_none {post : Int32 → St2 → Prop} {tp : Int} (g : gg_G c A B w f0 a1 a2 a3) (e2 : f2 = zz_I tp) (e3 : f3 = zz_I 1) (bt : -1000 ≤ tp ∧ tp ≤ 1000) (hn : c = true → A = B → tp ≤ w) (h6 : ∀ p, p < 7 → a6 p = zz_I 0)
    (H : ∀ d q, post (-1) (f0, f1, f2, f3, a1, a2, a3, a4, a5, d, a7, a8, a9, a10, a11, a12, a13, a14, a15, q, a17, a18, a19)) : ∃ n, wX_findBetterRing_32 post f0 f1 f2 f3 n (-1) 0 a1 a2 a3 a4 a5 a6 a7 a8 a9 a10 a11 a12 a13 a14 a15 a16 a17 a18 a19 := by
  obtain ⟨hA, hB, h1, h2⟩ := g.2.1
  refine pk_loop (σ := Int32 × (Nat → Int32) × (Nat → Int32)) (fun n j u => wX_findBetterRing_32 post f0 f1 f2 f3 n u.1 (nI j) a1 a2 a3 a4 a5 u.2.1 a7 a8 a9 a10 a11 a12 a13 a14 a15 u.2.2 a17 a18 a19)
    (fun j u => (¬ j = 1 → u.1 = -1) ∧ (j = 0 → ∀ p, p < 7 → u.2.1 p = zz_I 0) ∧ (1 ≤ j → c = true → ∃ x y, u.2.1 A = zz_I x ∧ u.2.1 B = zz_I y ∧ y ≤ x + (w - tp) ∧ zz_b (x + (w - tp)) ∧ zz_b y)) 8 0 (-1, a6, a16) (by omega) ⟨fun _ => rfl, fun _ => h6, fun z => absurd z (by omega)⟩
    (fun n u k => pk_lt 7 8 (fun _ => ⟨1, pk_le 7 0 (fun z => absurd z (by omega)) (fun _ => ?_)⟩) (fun z => absurd z (by omega)))
    (fun n j u hj k hw => pk_lt 7 j (fun z => absurd z (by omega)) (fun _ => ?_))
  · have e := k.1 (by omega)
    rw [e]
    exact br_t (by decide) (H _ _)
  · obtain ⟨k1, k2, k3⟩ := k
    by_cases ej : j = 0
    · have h0 := k2 ej
      by_cases hm : c = true ∧ w < tp
      · have hAB : ¬ A = B := fun z => absurd (hn hm.1 z) (by omega)
        refine fb_move g e2 e3 hm.1 (h0 A hA) (h0 B hB) (by omega) ⟨by omega, by omega⟩ ⟨by omega, by omega⟩ ?_
        rw [nI_1]
        refine hw (_, _, _) ⟨fun z => absurd (show j + 1 = 1 by omega) z, fun z => absurd z (by omega), fun _ _ => ⟨0, 0 + (w - tp), ?_, pk_us, by omega, ⟨by omega, by omega⟩, ⟨by omega, by omega⟩⟩⟩
        show upd u.2.1 B _ A = _
        rw [pk_un hAB]
        exact h0 A hA
      · have st : c = true → ∃ x y, u.2.1 A = zz_I x ∧ u.2.1 B = zz_I y ∧ y ≤ x + (w - tp) ∧ zz_b (x + (w - tp)) ∧ zz_b y := fun hc => by
          have hw0 : tp ≤ w := by
            by_cases z : w < tp
            · exact absurd ⟨hc, z⟩ hm
            · omega
          exact ⟨0, 0, h0 A hA, h0 B hB, by omega, ⟨by omega, by omega⟩, ⟨by omega, by omega⟩⟩
        refine fb_still g e2 e3 st ?_
        rw [nI_1]
        exact hw (_, _, _) ⟨fun _ => rfl, fun z => absurd z (by omega), fun _ => st⟩
    · have st := k3 (by omega)
      refine fb_still g e2 e3 st ?_
      rw [nI_1]
      exact hw (_, _, _) ⟨fun _ => rfl, fun z => absurd z (by omega), fun _ => st⟩
/-- a better ring: the loop -/
theorem fb_ring {post : Int32 → St2 → Prop} {tp : Int} (g : gg_G c A B w f0 a1 a2 a3) (e2 : f2 = zz_I tp) (e3 : f3 = zz_I 1) (bt : -1000 ≤ tp ∧ tp ≤ 1000) (hc : c = true) (hAB : A = B) (hn : w < tp) (h6 : ∀ p, p < 7 → a6 p = zz_I 0)
    (H : ∀ d q, q A = nI 0 → post (nI A) (f0, f1, f2, f3, a1, a2, a3, a4, a5, d, a7, a8, a9, a10, a11, a12, a13, a14, a15, q, a17, a18, a19)) : ∃ n, wX_findBetterRing_32 post f0 f1 f2 f3 n (-1) 0 a1 a2 a3 a4 a5 a6 a7 a8 a9 a10 a11 a12 a13 a14 a15 a16 a17 a18 a19 := by
  obtain ⟨hA, hB, h1, h2⟩ := g.2.1
  subst hAB
  refine pk_loop (σ := Int32 × (Nat → Int32) × (Nat → Int32)) (fun n j u => wX_findBetterRing_32 post f0 f1 f2 f3 n u.1 (nI j) a1 a2 a3 a4 a5 u.2.1 a7 a8 a9 a10 a11 a12 a13 a14 a15 u.2.2 a17 a18 a19)
    (fun j u => (1 ≤ j → u.1 = nI A ∧ u.2.2 A = nI 0) ∧ ∃ x, u.2.1 A = zz_I x ∧ -2000 * (j : Int) ≤ x ∧ x ≤ 0) 8 0 (-1, a6, a16) (by omega) ⟨fun z => absurd z (by omega), 0, h6 A hA, by omega, by omega⟩
    (fun n u k => pk_lt 7 8 (fun _ => ?_) (fun z => absurd z (by omega)))
    (fun n j u hj k hw => pk_lt 7 j (fun z => absurd z (by omega)) (fun _ => ?_))
  · obtain ⟨k1, k2⟩ := k.1 (by omega)
    rw [k1]
    exact pk_loop (σ := Unit) (fun n i _ => wX_findBetterRing_161 post f0 f1 f2 f3 a1 a2 a3 a4 a5 u.2.1 a7 a8 a9 a10 a11 a12 a13 a14 a15 u.2.2 a17 a18 a19 n (nI A) (nI i)) (fun _ _ => True) 7 0 () (by omega) trivial
      (fun n _ _ => pk_le 7 7 (fun _ => H _ _ k2) (fun z => absurd z (by omega)))
      (fun n i _ hi _ hw => pk_le 7 i (fun z => absurd z (by omega)) (fun _ => br_f (nI_pos (by omega)) ⟨pk_in A 7 hA, pk_in 0 20 (by omega) (zz_at k2), nm_r (e' := nI A) (by rw [zz_at k2, gg_a1 g]) (nm_r (nI_1 i) (hw () trivial))⟩))
  · obtain ⟨k1, x, k2, k3, k4⟩ := k
    refine fb_move g e2 e3 hc k2 k2 (by omega) ⟨by omega, by omega⟩ ⟨by omega, by omega⟩ ?_
    rw [nI_1]
    exact hw (_, _, _) ⟨fun _ => ⟨rfl, pk_us⟩, x + (w - tp), pk_us, by omega, by omega⟩
theorem fb_2 {post : Int32 → St2 → Prop} (H : ∀ d q, (∀ p, p < 7 → d p = zz_I 0) → ∃ n, wX_findBetterRing_32 post f0 f1 f2 f3 n (-1) 0 a1 a2 a3 a4 a5 d a7 a8 a9 a10 a11 a12 a13 a14 a15 q a17 a18 a19) : wpX_findBetterRing post (f0, f1, f2, f3, a1, a2, a3, a4, a5, a6, a7, a8, a9, a10, a11, a12, a13, a14, a15, a16, a17, a18, a19) :=
  pk_loop (σ := (Nat → Int32) × (Nat → Int32)) (fun n i u => wX_findBetterRing_2 post f0 f1 f2 f3 n (nI i) a1 a2 a3 a4 a5 u.1 a7 a8 a9 a10 a11 a12 a13 a14 a15 u.2 a17 a18 a19) (fun i u => ∀ p, p < i → u.1 p = zz_I 0) 7 0 (a6, a16) (by omega) lt_0
    (fun n u h => pk_le 7 7 (fun _ => H u.1 u.2 h) (fun z => absurd z (by omega)))
    (fun n i u hi h hw => pk_le 7 i (fun z => absurd z (by omega)) (fun _ => ⟨pk_in i 7 hi, nm_e ⟨pk_in i 7 hi, nm_e (nm_r (nI_1 i) (hw (_, _) (zz_fill (zz_cl (by omega)) h zz_0)))⟩⟩))
/-- findMeanByRings -/
theorem fr_go {post : Int32 → St2 → Prop} (g : gg_G c A B w f0 a1 a2 a3)
    (H1 : c = true ∧ A = B → ∀ x1 y4 y5 y6 y7 y8 y9 y10 y11 y12 y13 y14 y15 y16 y17 y18 y19, post 1 (f0, x1, zz_I w, zz_I 1, a1, a2, a3, y4, y5, y6, y7, y8, y9, y10, y11, y12, y13, y14, y15, y16, y17, y18, y19))
    (H0 : ¬ (c = true ∧ A = B) → ∀ x1 x2 x3 y4 y5 y6 y7 y8 y9 y10 y11 y12 y13 y14 y15 y16 y17 y18 y19, post 0 (f0, x1, x2, x3, a1, a2, a3, y4, y5, y6, y7, y8, y9, y10, y11, y12, y13, y14, y15, y16, y17, y18, y19)) : wpX_findMeanByRings post (f0, f1, f2, f3, a1, a2, a3, a4, a5, a6, a7, a8, a9, a10, a11, a12, a13, a14, a15, a16, a17, a18, a19) := by
  obtain ⟨hA, hB, h1, h2⟩ := id g.2.1
  unfold wpX_findMeanByRings
  by_cases e : c = true ∧ A = B
  · obtain ⟨hc, hAB⟩ := id e
    refine fb_2 (fun d q hd => fb_ring (tp := 21) g (by decide) (by decide) (by omega) hc hAB (by omega) hd (fun d q hq => br_f (nI_pos (by omega)) ⟨2, ?_⟩))
    refine pk_le 1000 0 (fun z => absurd z (by omega)) (fun _ => br_f (nI_pos (by omega)) ⟨2, ?_⟩)
    refine br_f (by decide) ⟨pk_in A 7 hA, pk_in 0 20 (by omega) (zz_at hq), nm_r (e' := zz_I w) (by rw [zz_at hq, gg_a3 g, zz_0, zz_add, Int.zero_add]) (nm_r (e' := zz_I 1) (by decide) ⟨pk_in A 7 hA, pk_in 0 20 (by omega) (zz_at hq), nm_r (e' := nI A) (by rw [zz_at hq, gg_a1 g]) (br_t rfl (br_t rfl ?_))⟩)⟩
    refine fb_2 (fun d' q' hd' => fb_none (tp := w) g rfl rfl (by omega) (fun _ _ => by omega) hd' (fun d'' q'' => nm_r (nI_1 0) ?_))
    exact pk_le 1000 1 (fun z => absurd z (by omega)) (fun _ => br_t (by decide) ⟨rfl, H1 e _ _ _ _ _ _ _ _ _ _ _ _ _ _ _ _ _⟩)
  · refine fb_2 (fun d q hd => fb_none (tp := 21) g (by decide) (by decide) (by omega) (fun hc hAB => absurd ⟨hc, hAB⟩ e) hd (fun d q => br_t (by decide) ⟨1, ?_⟩))
    exact pk_le 1000 0 (fun z => absurd z (by omega)) (fun _ => br_t (by decide) ⟨rfl, H0 e _ _ _ _ _ _ _ _ _ _ _ _ _ _ _ _ _ _ _⟩)
end
/-! divisor -/
theorem dv_13 {post : Int32 → Prop} {d m : Nat} (hd : 1 ≤ d) (hd2 : d < 1000) (hm : d * m < 1000000) (H : post (nI d)) : ∃ n, wX_divisor_13 post n (nI (d * m)) (nI d) := by
  refine ⟨2, br_f (nI_ne0 (by omega) (by omega)) ⟨nI_ne0 (by omega) (by omega), nm_r (e' := nI 0) ?_ (br_t rfl (pk_le 1 d (fun _ => H) (fun z => absurd z (by omega))))⟩⟩
  rw [pk_rem (by omega) (by omega) (by omega), Nat.mul_mod_right]
theorem dv_go {post : Int32 → Prop} {d : Nat} {w : Int} (hd : 1 ≤ d) (hd2 : d ≤ 7) (h1 : -20 ≤ w) (h2 : w ≤ 20) (H : post (nI d)) : wpX_divisor post () (zz_I ((d : Int) * w)) (zz_I (d : Int)) := by
  rw [← zz_nat d]
  have hb : ∀ m : Nat, m ≤ 20 → d * m < 1000000 := fun m hm => by
    have := Nat.mul_le_mul hd2 hm
    omega
  have hbw : zz_b ((d : Int) * w) := by
    have e1 : (d : Int) * w ≤ 7 * 20 := by
      by_cases z : 0 ≤ w
      · exact Int.mul_le_mul (by omega) h2 z (by omega)
      · have := Int.mul_nonpos_of_nonneg_of_nonpos (a := (d : Int)) (b := w) (by omega) (by omega)
        omega
    have e2 : -(7 * 20) ≤ (d : Int) * w := by
      by_cases z : 0 ≤ w
      · have := Int.mul_nonneg (a := (d : Int)) (b := w) (by omega) z
        omega
      · have := Int.mul_le_mul (a := (d : Int)) (b := -w) (c := 7) (d := 20) (by omega) (by omega) (by omega) (by omega)
        rw [Int.mul_neg] at this
        omega
    exact ⟨by omega, by omega⟩
  by_cases z : 0 ≤ w
  · have e : zz_I ((d : Int) * w) = nI (d * w.toNat) := by
      rw [zz_nat]
      refine congrArg zz_I ?_
      rw [Int.natCast_mul, Int.toNat_of_nonneg z]
    rw [e]
    exact br_t (nI_pos' (by have := hb w.toNat (by omega); omega)) (dv_13 hd (by omega) (hb _ (by omega)) H)
  · have e : - zz_I ((d : Int) * w) = nI (d * (-w).toNat) := by
      rw [zz_nat, zz_neg]
      refine congrArg zz_I ?_
      rw [Int.natCast_mul, Int.toNat_of_nonneg (by omega), Int.mul_neg]
    have hneg : (d : Int) * w < 0 := Int.mul_neg_of_pos_of_neg (by omega) (by omega)
    refine zz_le 0 ((d : Int) * w) (fun t => absurd t (by omega)) (fun _ => nm_r e (dv_13 hd (by omega) (hb _ (by omega)) H)) zz_0 rfl ⟨by omega, by omega⟩ hbw
theorem mt_d7 : ∀ k : Nat, k < 41 → zz_I (7 * ((k : Int) - 20)) / nI 7 = zz_I ((k : Int) - 20) := by decide +kernel
theorem mt_d1 : ∀ k : Nat, k < 41 → zz_I ((k : Int) - 20) / nI 1 = zz_I ((k : Int) - 20) := by decide +kernel
section
variable {c : Bool} {A B : Nat} {w : Int} {f0 f1 f2 f3 : Int32} {a1 a2 a3 a4 a5 a6 a7 a8 a9 a10 a11 a12 a13 a14 a15 a16 a17 a18 a19 : Nat → Int32}
/-- meanTop -/
theorem mt_go {post : Int32 → St2 → Prop} (g : gg_G c A B w f0 a1 a2 a3) {p0 : Int32} (H0 : (p0 < 0 ∨ ¬ p0 ≤ 1) → ∀ x1 x2 x3 y4 y5 y6 y7 y8 y9 y10 y11 y12 y13 y14 y15 y16 y17 y18 y19, post (-1000) (f0, x1, x2, x3, a1, a2, a3, y4, y5, y6, y7, y8, y9, y10, y11, y12, y13, y14, y15, y16, y17, y18, y19))
    (H1 : ¬ p0 < 0 → p0 ≤ 1 → ∀ x1 x2 x3 y4 y5 y6 y7 y8 y9 y10 y11 y12 y13 y14 y15 y16 y17 y18 y19, post (if c = true ∧ A = B then zz_I w else -3000) (f0, x1, x2, x3, a1, a2, a3, y4, y5, y6, y7, y8, y9, y10, y11, y12, y13, y14, y15, y16, y17, y18, y19)) : wpX_meanTop post (f0, f1, f2, f3, a1, a2, a3, a4, a5, a6, a7, a8, a9, a10, a11, a12, a13, a14, a15, a16, a17, a18, a19) p0 := by
  obtain ⟨hA, hB, h1, h2⟩ := id g.2.1
  obtain ⟨k, hk, ek⟩ : ∃ k : Nat, k < 41 ∧ w = (k : Int) - 20 := ⟨(w + 20).toNat, by omega, by omega⟩
  refine br_c (fun z => H0 (Or.inl z) _ _ _ _ _ _ _ _ _ _ _ _ _ _ _ _ _ _ _) (fun z => br_c (fun z2 => ?_) (fun z2 => H0 (Or.inr z2) _ _ _ _ _ _ _ _ _ _ _ _ _ _ _ _ _ _ _))
  have K := H1 z z2
  refine br_c (fun z3 => fc_go g (fun e x1 y4 y5 y6 y7 y8 y9 y10 y11 y12 y13 y14 y15 y16 y17 y18 y19 => ⟨rfl, br_f (by decide) (dv_go (d := 7) (w := w) (by omega) (by omega) h1 h2 (br_f (by decide) ⟨by decide, ?_⟩))⟩) (fun e x1 x2 x3 y4 y5 y6 y7 y8 y9 y10 y11 y12 y13 y14 y15 y16 y17 y18 y19 => ⟨rfl, br_t rfl ?_⟩))
    (fun z3 => fr_go g (fun e x1 y4 y5 y6 y7 y8 y9 y10 y11 y12 y13 y14 y15 y16 y17 y18 y19 => ⟨rfl, br_f (by decide) (?_ : wpX_divisor _ () (zz_I w) (zz_I 1))⟩) (fun e x1 x2 x3 y4 y5 y6 y7 y8 y9 y10 y11 y12 y13 y14 y15 y16 y17 y18 y19 => ⟨rfl, br_t rfl ?_⟩))
  · rw [if_pos e] at K
    have q : zz_I (7 * w) / nI 7 = zz_I w := by
      rw [ek]
      exact mt_d7 k hk
    exact (congrArg (fun r => post r _) q).mpr (K _ _ _ _ _ _ _ _ _ _ _ _ _ _ _ _ _ _ _)
  · rw [if_neg e] at K
    exact K _ _ _ _ _ _ _ _ _ _ _ _ _ _ _ _ _ _ _
  · rw [if_pos e] at K
    have e1 : zz_I w = zz_I ((1 : Nat) * w) := congrArg zz_I (by omega)
    rw [e1]
    refine dv_go (d := 1) (w := w) (by omega) (by omega) h1 h2 (br_f (by decide) ⟨by decide, ?_⟩)
    have q : zz_I ((1 : Nat) * w) / nI 1 = zz_I w := by
      rw [← e1, ek]
      exact mt_d1 k hk
    exact (congrArg (fun r => post r _) q).mpr (K _ _ _ _ _ _ _ _ _ _ _ _ _ _ _ _ _ _ _)
  · rw [if_neg e] at K
    exact K _ _ _ _ _ _ _ _ _ _ _ _ _ _ _ _ _ _ _
end
end
section
/-! the law's own checks: what must hold of the answers -/
abbrev lm_Tw (x4 x5 : Int32) : Prop := ¬ x4 < 0 ∧ ¬ 6 < x4 ∧ ¬ x5 < 0 ∧ ¬ 6 < x5
abbrev lm_Lp (x0 x1 x13 : Int32) : Prop := ¬ x13 = 0 ∧ x0 = x1
abbrev lm_Mn (x0 x1 x4 x5 x13 : Int32) : Prop := ¬ x13 = 0 ∧ x0 = x4 ∧ x1 = x5
abbrev lm_Fl (x0 x1 x2 x13 : Int32) : Prop := lm_Lp x0 x1 x13 ∧ ¬ 0 ≤ x2
def ml_7 (x7 x13 : Int32) : Prop := (x13 = 0 → x7 = -1000) ∧ (¬ x13 = 0 → x7 = 0)
def ml_8 (x0 x1 x2 x3 x4 x5 x8 x13 : Int32) : Prop := (¬ (lm_Tw x4 x5 ∧ ¬ x3 < 0 ∧ ¬ 4 < x3) → x8 = -1000) ∧
  (lm_Tw x4 x5 → ¬ x3 < 0 → ¬ 4 < x3 → x8 = if x4 = x5 then (if lm_Mn x0 x1 x4 x5 x13 ∧ lm_Fl x0 x1 x2 x13 then -4000 else 0) else (if lm_Mn x0 x1 x4 x5 x13 then x2 else -3000))
def ml_9 (x0 x1 x2 x4 x5 x9 x13 : Int32) : Prop := (¬ lm_Tw x4 x5 → x9 = -1000) ∧ (lm_Tw x4 x5 → x9 = if lm_Mn x0 x1 x4 x5 x13 ∧ (¬ x4 = x5 ∨ x2 = 0) then 1 else 0)
def ml_10 (x0 x1 x2 x3 x10 x13 : Int32) : Prop := ((x3 < 0 ∨ ¬ x3 ≤ 1) → x10 = -1000) ∧ (¬ x3 < 0 → x3 ≤ 1 → x10 = if lm_Lp x0 x1 x13 then x2 else -3000)
def ml_11 (x0 x1 x2 x11 x13 : Int32) : Prop := x11 = if ¬ x13 = 0 ∧ ¬ x0 = x1 then x2 else -3000
def ml_12 (x0 x1 x2 x12 x13 : Int32) : Prop := x12 = if lm_Fl x0 x1 x2 x13 then 0 else 1
section
variable {post : Int32 → St0 → Prop} {mc ms kc ks : Nat} {x0 x1 x2 x3 x4 x5 x7 x8 x9 x10 x11 x12 x13 x14 x15 x16 x17 : Int32}
theorem ll_189 (m7 : ml_7 x7 x13) (m8 : ml_8 x0 x1 x2 x3 x4 x5 x8 x13) (m9 : ml_9 x0 x1 x2 x4 x5 x9 x13) (m10 : ml_10 x0 x1 x2 x3 x10 x13) (m11 : ml_11 x0 x1 x2 x11 x13) (m12 : ml_12 x0 x1 x2 x12 x13)
    (e14 : x14 = 0 ↔ ¬ lm_Tw x4 x5) (e15 : x15 = 0 ↔ ¬ lm_Lp x0 x1 x13) (e16 : x16 = 0 ↔ ¬ lm_Mn x0 x1 x4 x5 x13) (e17 : x17 = 0 ↔ ¬ lm_Fl x0 x1 x2 x13) (hp : post 1 ()) :
    wL_lawOf_189 post mc ms x2 x3 x4 x5 x7 x8 x9 x10 x11 x12 x13 x14 x15 x16 x17 kc ks := by
  have y14 : ¬ x14 = 0 → lm_Tw x4 x5 := fun q => Classical.not_not.mp (fun t => q (e14.mpr t))
  have y15 : ¬ x15 = 0 → lm_Lp x0 x1 x13 := fun q => Classical.not_not.mp (fun t => q (e15.mpr t))
  have y16 : ¬ x16 = 0 → lm_Mn x0 x1 x4 x5 x13 := fun q => Classical.not_not.mp (fun t => q (e16.mpr t))
  have y17 : ¬ x17 = 0 → lm_Fl x0 x1 x2 x13 := fun q => Classical.not_not.mp (fun t => q (e17.mpr t))
  have s368 : ∀ {z : Int32}, x11 = z → wL_lawOf_368 post mc ms x12 x17 z x11 kc ks := fun h => br_t h (br_c (fun q => br_t (m12.trans (if_neg (e17.mp q))) hp) (fun q => br_t (m12.trans (if_pos (y17 q))) hp))
  have s346 : ∀ {z : Int32}, x10 = z → wL_lawOf_346 post mc ms x2 x11 x12 x13 x15 x17 z x10 kc ks := fun h => br_t h (br_c (fun q => s368 (m11.trans (if_neg (fun t => t.1 q))))
    (fun q => br_c (fun q2 => s368 (m11.trans (if_pos ⟨q, fun t => (e15.mp q2) ⟨q, t⟩⟩))) (fun q2 => s368 (m11.trans (if_neg (fun t => t.2 (y15 q2).2))))))
  have s314 : ∀ {z : Int32}, x9 = z → wL_lawOf_314 post mc ms x2 x3 x10 x11 x12 x13 x15 x17 z x9 kc ks := fun h => br_t h (br_c (fun q => s346 (m10.1 (Or.inl q)))
    (fun q => br_c (fun q2 => br_c (fun q3 => s346 ((m10.2 q q2).trans (if_neg (e15.mp q3)))) (fun q3 => s346 ((m10.2 q q2).trans (if_pos (y15 q3))))) (fun q2 => s346 (m10.1 (Or.inr q2)))))
  have s296 : ∀ {z x19 : Int32}, x8 = z → (¬ x14 = 0 → x9 = x19) → wL_lawOf_296 post mc ms x2 x3 x9 x10 x11 x12 x13 x14 x15 x17 x19 z x8 kc ks := fun h h9 => br_t h (br_c (fun q => s314 (m9.1 (e14.mp q))) (fun q => s314 (h9 q)))
  have s269 : ∀ {z x18 x19 : Int32}, x7 = z → (¬ x14 = 0 → x9 = x19) → (lm_Tw x4 x5 → ¬ x3 < 0 → ¬ 4 < x3 → x8 = x18) → wL_lawOf_269 post mc ms x2 x3 x8 x9 x10 x11 x12 x13 x14 x15 x17 x18 x19 z x7 kc ks := fun h h9 h8 => br_t h (br_c (fun q => s296 (m8.1 (fun t => (e14.mp q) t.1)) h9)
    (fun q => br_c (fun q2 => s296 (m8.1 (fun t => t.2.1 q2)) h9) (fun q2 => br_c (fun q3 => s296 (m8.1 (fun t => t.2.2 q3)) h9) (fun q3 => s296 (h8 (y14 q) q2 q3) h9))))
  have s253 : ∀ {x18 x19 : Int32}, (¬ x14 = 0 → x9 = x19) → (lm_Tw x4 x5 → ¬ x3 < 0 → ¬ 4 < x3 → x8 = x18) → wL_lawOf_253 post mc ms x2 x3 x7 x8 x9 x10 x11 x12 x13 x14 x15 x17 x18 x19 kc ks := fun h9 h8 => br_c (fun q => s269 (m7.1 q) h9 h8) (fun q => s269 (m7.2 q) h9 h8)
  have s230 : ∀ {x18 : Int32}, (lm_Tw x4 x5 → ¬ x3 < 0 → ¬ 4 < x3 → x8 = x18) → wL_lawOf_230 post mc ms x2 x3 x4 x5 x7 x8 x9 x10 x11 x12 x13 x14 x15 x16 x17 x18 kc ks := fun h8 => br_c (fun q => s253 (x19 := 0) (fun t => (m9.2 (y14 t)).trans (if_neg (fun t2 => (e16.mp q) t2.1))) h8)
    (fun q => br_c (fun q2 => br_c (fun q3 => s253 (x19 := 1) (fun t => (m9.2 (y14 t)).trans (if_pos ⟨y16 q, Or.inr q3⟩)) h8) (fun q3 => s253 (x19 := 0) (fun t => (m9.2 (y14 t)).trans (if_neg (fun t2 => t2.2.elim (fun t3 => t3 q2) q3))) h8)) (fun q2 => s253 (x19 := 1) (fun t => (m9.2 (y14 t)).trans (if_pos ⟨y16 q, Or.inl q2⟩)) h8))
  exact br_c (fun q => br_c (fun q2 => s230 (x18 := 0) (fun t1 t2 t3 => (m8.2 t1 t2 t3).trans ((if_pos q).trans (if_neg (fun t4 => (e16.mp q2) t4.1)))))
      (fun q2 => br_c (fun q3 => s230 (x18 := 0) (fun t1 t2 t3 => (m8.2 t1 t2 t3).trans ((if_pos q).trans (if_neg (fun t4 => (e17.mp q3) t4.2))))) (fun q3 => s230 (fun t1 t2 t3 => (m8.2 t1 t2 t3).trans ((if_pos q).trans (if_pos ⟨y16 q2, y17 q3⟩))))))
    (fun q => br_c (fun q2 => s230 (fun t1 t2 t3 => (m8.2 t1 t2 t3).trans ((if_neg q).trans (if_neg (e16.mp q2))))) (fun q2 => s230 (fun t1 t2 t3 => (m8.2 t1 t2 t3).trans ((if_neg q).trans (if_pos (y16 q2))))))
theorem ll_101 (m7 : ml_7 x7 x13) (m8 : ml_8 x0 x1 x2 x3 x4 x5 x8 x13) (m9 : ml_9 x0 x1 x2 x4 x5 x9 x13) (m10 : ml_10 x0 x1 x2 x3 x10 x13) (m11 : ml_11 x0 x1 x2 x11 x13) (m12 : ml_12 x0 x1 x2 x12 x13) (hp : post 1 ()) :
    wL_lawOf_101 post mc ms x0 x1 x2 x3 x4 x5 x7 x8 x9 x10 x11 x12 x13 kc ks := by
  have no : ∀ {P : Prop}, ¬ P → ((0 : Int32) = 0 ↔ ¬ P) := fun h => ⟨fun _ => h, fun _ => rfl⟩
  have yes : ∀ {P : Prop}, P → ((1 : Int32) = 0 ↔ ¬ P) := fun h => ⟨fun t => absurd t (by decide), fun t => absurd h t⟩
  have s173 : ∀ {x14 x15 x16 : Int32}, (x14 = 0 ↔ ¬ lm_Tw x4 x5) → (x15 = 0 ↔ ¬ lm_Lp x0 x1 x13) → (x16 = 0 ↔ ¬ lm_Mn x0 x1 x4 x5 x13) → wL_lawOf_173 post mc ms x2 x3 x4 x5 x7 x8 x9 x10 x11 x12 x13 x14 x15 x16 kc ks := fun e14 e15 e16 =>
    br_c (fun q => ll_189 m7 m8 m9 m10 m11 m12 e14 e15 e16 (no (fun t => (e15.mp q) t.1)) hp) (fun q => br_c (fun q2 => ll_189 m7 m8 m9 m10 m11 m12 e14 e15 e16 (no (fun t => t.2 q2)) hp) (fun q2 => ll_189 m7 m8 m9 m10 m11 m12 e14 e15 e16 (yes ⟨Classical.not_not.mp (fun t => q (e15.mpr t)), q2⟩) hp))
  have s149 : ∀ {x14 x15 : Int32}, (x14 = 0 ↔ ¬ lm_Tw x4 x5) → (x15 = 0 ↔ ¬ lm_Lp x0 x1 x13) → wL_lawOf_149 post mc ms x0 x1 x2 x3 x4 x5 x7 x8 x9 x10 x11 x12 x13 x14 x15 kc ks := fun e14 e15 =>
    br_c (fun q => s173 e14 e15 (no (fun t => t.1 q))) (fun q => br_c (fun q2 => br_c (fun q3 => s173 e14 e15 (yes ⟨q, q2, q3⟩)) (fun q3 => s173 e14 e15 (no (fun t => q3 t.2.2)))) (fun q2 => s173 e14 e15 (no (fun t => q2 t.2.1))))
  have s132 : ∀ {x14 : Int32}, (x14 = 0 ↔ ¬ lm_Tw x4 x5) → wL_lawOf_132 post mc ms x0 x1 x2 x3 x4 x5 x7 x8 x9 x10 x11 x12 x13 x14 kc ks := fun e14 =>
    br_c (fun q => s149 e14 (no (fun t => t.1 q))) (fun q => br_c (fun q2 => s149 e14 (yes ⟨q, q2⟩)) (fun q2 => s149 e14 (no (fun t => q2 t.2))))
  exact br_c (fun q => s132 (no (fun t => t.1 q))) (fun q => br_c (fun q2 => s132 (no (fun t => t.2.1 q2))) (fun q2 => br_c (fun q3 => s132 (no (fun t => t.2.2.1 q3))) (fun q3 => br_c (fun q4 => s132 (no (fun t => t.2.2.2 q4))) (fun q4 => s132 (yes ⟨q, q2, q3, q4⟩)))))
end
end
section
theorem la_iN {x : Int32} {N : Nat} (hN : N < 100) : (¬ x < 0 ∧ ¬ nI N < x) ↔ la_pt x (N + 1) := by
  constructor
  · rintro ⟨h1, h2⟩
    refine la_in (by omega) h1 (fun t => h2 ?_)
    rw [Int32.le_iff_toInt_le, nI_toInt (by omega)] at t
    rw [Int32.lt_iff_toInt_lt, nI_toInt (by omega)]
    omega
  · rintro ⟨n, hn, e⟩
    rw [e]
    exact ⟨nI_pos (by omega), nI_nlt (by omega) (by omega)⟩
theorem la_i7 {x : Int32} : (¬ x < 0 ∧ ¬ 6 < x) ↔ la_pt x 7 := la_iN (N := 6) (by omega)
theorem la_i5 {x : Int32} : (¬ x < 0 ∧ ¬ 4 < x) ↔ la_pt x 5 := la_iN (N := 4) (by omega)
theorem la_tw {x4 x5 : Int32} : lm_Tw x4 x5 ↔ (la_pt x4 7 ∧ la_pt x5 7) := by
  constructor
  · rintro ⟨h1, h2, h3, h4⟩
    exact ⟨la_i7.mp ⟨h1, h2⟩, la_i7.mp ⟨h3, h4⟩⟩
  · rintro ⟨h1, h2⟩
    exact ⟨(la_i7.mpr h1).1, (la_i7.mpr h1).2, (la_i7.mpr h2).1, (la_i7.mpr h2).2⟩
theorem la_13 {c : Bool} {x13 : Int32} (h13 : x13 = if c = true then 1 else 0) : (¬ x13 = 0) ↔ c = true := by
  subst h13
  cases c
  · simp
  · simp
section
variable {c : Bool} {A B : Nat} {w : Int} {f0 f1 f2 f3 : Int32} {a1 a2 a3 a4 a5 a6 a7 a8 a9 a10 a11 a12 a13 a14 a15 a16 a17 a18 a19 : Nat → Int32}
variable {p0 p1 p2 p3 p4 p5 x13 : Int32}
theorem la_Lp (g : gg_G c A B w f0 a1 a2 a3) (h13 : x13 = if c = true then 1 else 0) (hq : c = true → p0 = nI A ∧ p1 = nI B ∧ p2 = zz_I w) : lm_Lp p0 p1 x13 ↔ (c = true ∧ A = B) := by
  obtain ⟨hA, hB, h1, h2⟩ := g.2.1
  constructor
  · rintro ⟨k1, k2⟩
    have hc := (la_13 h13).mp k1
    obtain ⟨e0, e1, e2⟩ := hq hc
    rw [e0, e1, nI_eq (by omega) (by omega)] at k2
    exact ⟨hc, k2⟩
  · rintro ⟨hc, e⟩
    obtain ⟨e0, e1, e2⟩ := hq hc
    exact ⟨(la_13 h13).mpr hc, by rw [e0, e1, e]⟩
theorem la_Fl (g : gg_G c A B w f0 a1 a2 a3) (h13 : x13 = if c = true then 1 else 0) (hq : c = true → p0 = nI A ∧ p1 = nI B ∧ p2 = zz_I w) : lm_Fl p0 p1 p2 x13 ↔ (c = true ∧ A = B ∧ w < 0) := by
  obtain ⟨hA, hB, h1, h2⟩ := id g.2.1
  unfold lm_Fl
  rw [la_Lp g h13 hq]
  constructor
  · rintro ⟨⟨hc, e⟩, k⟩
    obtain ⟨e0, e1, e2⟩ := hq hc
    rw [e2, zz_0, zz_leI ⟨by omega, by omega⟩ ⟨by omega, by omega⟩] at k
    exact ⟨hc, e, by omega⟩
  · rintro ⟨hc, e, k⟩
    obtain ⟨e0, e1, e2⟩ := hq hc
    refine ⟨⟨hc, e⟩, ?_⟩
    rw [e2, zz_0, zz_leI ⟨by omega, by omega⟩ ⟨by omega, by omega⟩]
    omega
theorem la_Mn (g : gg_G c A B w f0 a1 a2 a3) (h13 : x13 = if c = true then 1 else 0) (hq : c = true → p0 = nI A ∧ p1 = nI B ∧ p2 = zz_I w) {s t : Nat} (hs : s < 7) (ht : t < 7) (e4 : p4 = nI s) (e5 : p5 = nI t) : lm_Mn p0 p1 p4 p5 x13 ↔ (c = true ∧ A = s ∧ B = t) := by
  obtain ⟨hA, hB, h1, h2⟩ := g.2.1
  constructor
  · rintro ⟨k1, k2, k3⟩
    have hc := (la_13 h13).mp k1
    obtain ⟨e0, e1, e2⟩ := hq hc
    rw [e0, e4, nI_eq (by omega) (by omega)] at k2
    rw [e1, e5, nI_eq (by omega) (by omega)] at k3
    exact ⟨hc, k2, k3⟩
  · rintro ⟨hc, k2, k3⟩
    obtain ⟨e0, e1, e2⟩ := hq hc
    exact ⟨(la_13 h13).mpr hc, by rw [e0, e4, k2], by rw [e1, e5, k3]⟩
/-- least -/
theorem la_least {post : Int32 → St2 → Prop} (g : gg_G c A B w f0 a1 a2 a3) (h13 : x13 = if c = true then 1 else 0) (hq : c = true → p0 = nI A ∧ p1 = nI B ∧ p2 = zz_I w) (H : ∀ r, ml_8 p0 p1 p2 p3 p4 p5 r x13 → ∀ x1 x2 x3 y4 y5 y6 y7 y8 y9 y10 y11 y12 y13 y14 y15 y16 y17 y18 y19, post r (f0, x1, x2, x3, a1, a2, a3, y4, y5, y6, y7, y8, y9, y10, y11, y12, y13, y14, y15, y16, y17, y18, y19)) : wpX_least post (f0, f1, f2, f3, a1, a2, a3, a4, a5, a6, a7, a8, a9, a10, a11, a12, a13, a14, a15, a16, a17, a18, a19) p3 p4 p5 := by
  obtain ⟨hA, hB, h1, h2⟩ := id g.2.1
  refine sv_least g (fun s t he hs ht e4 e5 => H _ ⟨fun z => ?_, fun _ _ _ => ?_⟩) (fun hn => H _ ⟨fun _ => rfl, fun k1 k2 k3 => ?_⟩)
  · exact absurd ⟨la_tw.mpr ⟨⟨s, hs, e4⟩, ⟨t, ht, e5⟩⟩, la_i5.mpr he⟩ z
  · have iM := la_Mn g h13 hq hs ht e4 e5
    have iF := la_Fl g h13 hq
    have i45 : p4 = p5 ↔ s = t := by rw [e4, e5, nI_eq (by omega) (by omega)]
    by_cases est : s = t
    · rw [if_pos (i45.mpr est)]
      subst est
      by_cases hL : pp_L c A B w s
      · have P : lm_Mn p0 p1 p4 p5 x13 ∧ lm_Fl p0 p1 p2 x13 := ⟨iM.mpr ⟨hL.1, hL.2.1, hL.2.2.1⟩, iF.mpr ⟨hL.1, hL.2.1.trans hL.2.2.1.symm, hL.2.2.2⟩⟩
        rw [if_pos P, pp_Tl _ hL, if_neg (by omega)]
        exact zz_low.symm
      · have P : ¬ (lm_Mn p0 p1 p4 p5 x13 ∧ lm_Fl p0 p1 p2 x13) := fun z => hL ⟨(iM.mp z.1).1, (iM.mp z.1).2.1, (iM.mp z.1).2.2, (iF.mp z.2).2.2⟩
        have P0 : pp_T c A B w (-4000) s s = 0 := by
          unfold pp_T
          rw [if_pos rfl, if_neg hL]
        rw [if_neg P, P0, if_neg (by omega)]
        exact zz_0.symm
    · have P45 : ¬ p4 = p5 := fun z => est (i45.mp z)
      rw [if_neg P45]
      by_cases hM : c = true ∧ A = s ∧ B = t
      · have P0 : pp_T c A B w (-4000) s t = w := by
          unfold pp_T
          rw [if_neg est, if_pos hM]
        rw [if_pos (iM.mpr hM), P0, if_neg (by omega)]
        exact (hq hM.1).2.2.symm
      · have P : ¬ lm_Mn p0 p1 p4 p5 x13 := fun z => hM (iM.mp z)
        have P0 : pp_T c A B w (-4000) s t = 1048576 := by
          unfold pp_T
          rw [if_neg est, if_neg hM]
        rw [if_neg P, P0, if_pos rfl]
        exact zz_none.symm
  · exact absurd ⟨(la_tw.mp k1).1, (la_tw.mp k1).2, la_i5.mp ⟨k2, k3⟩⟩ hn
/-- on -/
theorem la_on {post : Int32 → St2 → Prop} (g : gg_G c A B w f0 a1 a2 a3) (h13 : x13 = if c = true then 1 else 0) (hq : c = true → p0 = nI A ∧ p1 = nI B ∧ p2 = zz_I w) (H : ∀ r, ml_9 p0 p1 p2 p4 p5 r x13 → ∀ x1 x2 x3 y4 y5 y6 y7 y8 y9 y10 y11 y12 y13 y14 y15 y16 y17 y18 y19, post r (f0, x1, x2, x3, a1, a2, a3, y4, y5, y6, y7, y8, y9, y10, y11, y12, y13, y14, y15, y16, y17, y18, y19)) : wpX_on post (f0, f1, f2, f3, a1, a2, a3, a4, a5, a6, a7, a8, a9, a10, a11, a12, a13, a14, a15, a16, a17, a18, a19) p4 p5 := by
  obtain ⟨hA, hB, h1, h2⟩ := id g.2.1
  refine sv_on g (fun s t hs ht e4 e5 => H _ ⟨fun z => ?_, fun _ => ?_⟩) (fun hn => H _ ⟨fun _ => rfl, fun k1 => ?_⟩)
  · exact absurd (la_tw.mpr ⟨⟨s, hs, e4⟩, ⟨t, ht, e5⟩⟩) z
  · have iM := la_Mn g h13 hq hs ht e4 e5
    have i45 : p4 = p5 ↔ s = t := by rw [e4, e5, nI_eq (by omega) (by omega)]
    have iw : c = true → (p2 = 0 ↔ w = 0) := fun hc => by rw [(hq hc).2.2, zz_0, zz_eqI ⟨by omega, by omega⟩ ⟨by omega, by omega⟩]
    refine ite_congr (propext ?_) (fun _ => rfl) (fun _ => rfl)
    rw [iM, i45]
    constructor
    · rintro ⟨hc, k1, k2, k3⟩
      refine ⟨⟨hc, k1, k2⟩, ?_⟩
      rw [iw hc]
      rcases k3 with k3 | k3
      · exact Or.inl (fun z => k3 (by rw [k1, k2, z]))
      · exact Or.inr k3
    · rintro ⟨⟨hc, k1, k2⟩, k3⟩
      rw [iw hc] at k3
      refine ⟨hc, k1, k2, ?_⟩
      rcases k3 with k3 | k3
      · exact Or.inl (fun z => k3 (by rw [← k1, ← k2, z]))
      · exact Or.inr k3
  · exact absurd (la_tw.mp k1) hn
/-- meanTop -/
theorem la_mean {post : Int32 → St2 → Prop} (g : gg_G c A B w f0 a1 a2 a3) (h13 : x13 = if c = true then 1 else 0) (hq : c = true → p0 = nI A ∧ p1 = nI B ∧ p2 = zz_I w) (H : ∀ r, ml_10 p0 p1 p2 p3 r x13 → ∀ x1 x2 x3 y4 y5 y6 y7 y8 y9 y10 y11 y12 y13 y14 y15 y16 y17 y18 y19, post r (f0, x1, x2, x3, a1, a2, a3, y4, y5, y6, y7, y8, y9, y10, y11, y12, y13, y14, y15, y16, y17, y18, y19)) : wpX_meanTop post (f0, f1, f2, f3, a1, a2, a3, a4, a5, a6, a7, a8, a9, a10, a11, a12, a13, a14, a15, a16, a17, a18, a19) p3 := by
  refine mt_go g (fun hz => H _ ⟨fun _ => rfl, fun k1 k2 => ?_⟩) (fun k1 k2 => H _ ⟨fun z => ?_, fun _ _ => ?_⟩)
  · exact absurd hz (fun z => z.elim k1 (fun t => t k2))
  · exact absurd z (fun z => z.elim k1 (fun t => t k2))
  · have iL := la_Lp g h13 hq
    by_cases e : c = true ∧ A = B
    · rw [if_pos e, if_pos (iL.mpr e)]
      exact (hq e.1).2.2.symm
    · rw [if_neg e, if_neg (fun z => e (iL.mp z))]
/-- widest -/
theorem la_wide {post : Int32 → St2 → Prop} (g : gg_G c A B w f0 a1 a2 a3) (h13 : x13 = if c = true then 1 else 0) (hq : c = true → p0 = nI A ∧ p1 = nI B ∧ p2 = zz_I w) (H : ∀ r, ml_11 p0 p1 p2 r x13 → ∀ x1 x2 x3 y4 y5 y6 y7 y8 y9 y10 y11 y12 y13 y14 y15 y16 y17 y18 y19, post r (f0, x1, x2, x3, a1, a2, a3, y4, y5, y6, y7, y8, y9, y10, y11, y12, y13, y14, y15, y16, y17, y18, y19)) : wpX_widest post (f0, f1, f2, f3, a1, a2, a3, a4, a5, a6, a7, a8, a9, a10, a11, a12, a13, a14, a15, a16, a17, a18, a19) := by
  refine sv_widest g (H _ ?_)
  have iL := la_Lp g h13 hq
  unfold ml_11
  by_cases e : c = true ∧ ¬ A = B
  · rw [if_pos e, if_pos ⟨(la_13 h13).mpr e.1, fun z => e.2 (iL.mp ⟨(la_13 h13).mpr e.1, z⟩).2⟩]
    exact (hq e.1).2.2.symm
  · rw [if_neg e, if_neg (fun z => e ⟨(la_13 h13).mp z.1, fun t => z.2 (iL.mpr ⟨(la_13 h13).mp z.1, t⟩).2⟩)]
    exact zz_none.symm
/-- calm -/
theorem la_calm {post : Int32 → St2 → Prop} (g : gg_G c A B w f0 a1 a2 a3) (h13 : x13 = if c = true then 1 else 0) (hq : c = true → p0 = nI A ∧ p1 = nI B ∧ p2 = zz_I w) (H : ∀ r, ml_12 p0 p1 p2 r x13 → ∀ x1 x2 x3 y4 y5 y6 y7 y8 y9 y10 y11 y12 y13 y14 y15 y16 y17 y18 y19, post r (f0, x1, x2, x3, a1, a2, a3, y4, y5, y6, y7, y8, y9, y10, y11, y12, y13, y14, y15, y16, y17, y18, y19)) : wpX_calm post (f0, f1, f2, f3, a1, a2, a3, a4, a5, a6, a7, a8, a9, a10, a11, a12, a13, a14, a15, a16, a17, a18, a19) := by
  refine sv_calm g (H _ ?_)
  have iF := la_Fl g h13 hq
  unfold ml_12
  refine ite_congr (propext ?_) (fun _ => rfl) (fun _ => rfl)
  rw [iF]
  constructor
  · rintro ⟨k1, _, k2, k3⟩
    exact ⟨k1, k2.symm, k3⟩
  · rintro ⟨k1, k2, k3⟩
    exact ⟨k1, rfl, k2.symm, k3⟩
end
/-! add -/
theorem la_weight {post : Int32 → Prop} {x : Int32} (h1 : (¬ x < -20 ∧ ¬ 20 < x) → post 1) (h0 : ¬ (¬ x < -20 ∧ ¬ 20 < x) → post 0) : wpX_isWeight post () x :=
  br_c (fun z => h0 (fun t => t.1 z)) (fun z => br_c (fun z2 => h0 (fun t => t.2 z2)) (fun z2 => h1 ⟨z, z2⟩))
theorem la_by : ∀ k : Nat, k < 41 → (zz_I ((k : Int) - 20)).toInt8.toInt32 = zz_I ((k : Int) - 20) := by decide +kernel
section
variable {c : Bool} {A B : Nat} {w : Int} {f0 f1 f2 f3 : Int32} {a1 a2 a3 a4 a5 a6 a7 a8 a9 a10 a11 a12 a13 a14 a15 a16 a17 a18 a19 : Nat → Int32}
variable {p0 p1 p2 : Int32}
theorem la_add {post : Int32 → St2 → Prop} (hf : f0 = 0)
    (H1 : ∀ A B w, A < 7 → B < 7 → -20 ≤ w → w ≤ 20 → p0 = nI A → p1 = nI B → p2 = zz_I w → post 0 (1, f1, f2, f3, (upd a1 0 (nI A)), (upd a2 0 (nI B)), (upd a3 0 (zz_I w)), a4, a5, a6, a7, a8, a9, a10, a11, a12, a13, a14, a15, a16, a17, a18, a19))
    (H0 : ¬ (la_pt p0 7 ∧ la_pt p1 7 ∧ ¬ p2 < -20 ∧ ¬ 20 < p2) → post (-1000) (f0, f1, f2, f3, a1, a2, a3, a4, a5, a6, a7, a8, a9, a10, a11, a12, a13, a14, a15, a16, a17, a18, a19)) : wpX_add post (f0, f1, f2, f3, a1, a2, a3, a4, a5, a6, a7, a8, a9, a10, a11, a12, a13, a14, a15, a16, a17, a18, a19) p0 p1 p2 := by
  unfold wpX_add
  refine la_point (fun z1 => br_f (by decide) (la_point (fun z2 => br_f (by decide) (la_weight (fun z3 => br_f (by decide) ⟨1, ?_⟩) (fun z3 => br_t rfl (H0 (fun t => z3 t.2.2))))) (fun z2 => br_t rfl (H0 (fun t => z2 t.2.1))))) (fun z1 => br_t rfl (H0 (fun t => z1 t.1)))
  obtain ⟨A, hA, eA⟩ := z1
  obtain ⟨B, hB, eB⟩ := z2
  have w1 : -20 ≤ p2.toInt := by
    have h := z3.1
    rw [Int32.lt_iff_toInt_lt, show (-20 : Int32).toInt = -20 by decide] at h
    omega
  have w2 : p2.toInt ≤ 20 := by
    have h := z3.2
    rw [Int32.lt_iff_toInt_lt, show (20 : Int32).toInt = 20 by decide] at h
    omega
  have ew : p2.toInt8.toInt32 = zz_I p2.toInt := by
    have h := la_by (p2.toInt + 20).toNat (by omega)
    rw [show (((p2.toInt + 20).toNat : Nat) : Int) - 20 = p2.toInt by omega, zz_of] at h
    rw [h, zz_of]
  refine pk_le 20 0 (fun z => absurd z (by omega)) (fun _ => br_f (by decide) (br_f (by decide) (br_t (by rw [hf]; decide) (br_t rfl (nm_r (e' := 1) (by rw [hf]; decide) ⟨pk_in 0 20 (by omega), nm_r (e' := upd a1 0 (nI A)) ?_ ⟨pk_in 0 20 (by omega), nm_r (e' := upd a2 0 (nI B)) ?_ ⟨pk_in 0 20 (by omega), nm_r (e' := upd a3 0 (zz_I p2.toInt)) ?_ (H1 A B p2.toInt hA hB w1 w2 eA eB (zz_of p2).symm)⟩⟩⟩)))))
  · rw [eA, zz_by A (by omega)]
    rfl
  · rw [eB, zz_by B (by omega)]
    rfl
  · rw [ew]
    rfl
end
end
section
section
variable {p0 p1 p2 p3 p4 p5 : Int32}
theorem la_init {post : St2 → Prop} (H : post ((0 : Int32), (0 : Int32), (0 : Int32), (0 : Int32), (fun _ => (0 : Int32)), (fun _ => (0 : Int32)), (fun _ => (0 : Int32)), (fun _ => (0 : Int32)), (fun _ => (0 : Int32)), (fun _ => (0 : Int32)), (fun _ => (0 : Int32)), (fun _ => (0 : Int32)), (fun _ => (0 : Int32)), (fun _ => (0 : Int32)), (fun _ => (0 : Int32)), (fun _ => (0 : Int32)), (fun _ => (0 : Int32)), (fun _ => (0 : Int32)), (fun _ => (0 : Int32)), (fun _ => (0 : Int32)), (fun _ => (0 : Int32)), (fun _ => (0 : Int32)), (fun _ => (0 : Int32)))) : wpX_init post 19 391 (0, 0, 0, 0) :=
  ⟨by omega, by omega, by omega, by omega, by omega, by omega, by omega, by omega, by omega, by omega, by omega, by omega, by omega, by omega, by omega, by omega, by omega, by omega, by omega, by omega, by omega, by omega, by omega, by omega, by omega, by omega, by omega, by omega, by omega, by omega, by omega, by omega, by omega, by omega, by omega, by omega, by omega, by omega, H⟩
/-- a script's place -/
theorem la_cell {post : Int32 → Prop} {L : Nat} {xs : Nat → Int32} (hL : L ≤ 6) (j : Nat) (hj : j < 100) (h : ∀ r, post r) : wpL_cellAt post L xs () (nI j) :=
  pk_le L j (fun _ => h _) (fun z => ⟨pk_in j L z, h _⟩)
theorem la_lawOf {post : Int32 → St0 → Prop} (hp : post 1 ()) : wpL_lawOf post 20 414 () p0 p1 p2 p3 p4 p5 := by
  refine ⟨by omega, by omega, 19, 391, by omega, by omega, la_init ?_⟩
  refine la_add rfl (fun A B w hA hB h1 h2 e0 e1 e2 => ?_) (fun hn => ?_)
  · have g : gg_G true A B w 1 (upd (fun _ => 0) 0 (nI A)) (upd (fun _ => 0) 0 (nI B)) (upd (fun _ => 0) 0 (zz_I w)) :=
      ⟨rfl, ⟨hA, hB, h1, h2⟩, ⟨pk_us, pk_us, pk_us⟩, fun k hk _ => ⟨by rw [pk_un (by omega)]; rfl, by rw [pk_un (by omega)]; rfl⟩⟩
    have hq : true = true → p0 = nI A ∧ p1 = nI B ∧ p2 = zz_I w := fun _ => ⟨e0, e1, e2⟩
    have h13 : (1 : Int32) = if true = true then 1 else 0 := rfl
    refine la_least g h13 hq (fun r8 m8 x1 x2 x3 y4 y5 y6 y7 y8 y9 y10 y11 y12 y13 y14 y15 y16 y17 y18 y19 => la_on g h13 hq (fun r9 m9 x1 x2 x3 y4 y5 y6 y7 y8 y9 y10 y11 y12 y13 y14 y15 y16 y17 y18 y19 => la_mean g h13 hq (fun r10 m10 x1 x2 x3 y4 y5 y6 y7 y8 y9 y10 y11 y12 y13 y14 y15 y16 y17 y18 y19 => la_wide g h13 hq (fun r11 m11 x1 x2 x3 y4 y5 y6 y7 y8 y9 y10 y11 y12 y13 y14 y15 y16 y17 y18 y19 => la_calm g h13 hq (fun r12 m12 x1 x2 x3 y4 y5 y6 y7 y8 y9 y10 y11 y12 y13 y14 y15 y16 y17 y18 y19 => ?_)))))
    have q0 := la_i7.mpr ⟨A, hA, e0⟩
    have q1 := la_i7.mpr ⟨B, hB, e1⟩
    have q2 : ¬ p2 < -20 := by
      rw [e2, show (-20 : Int32) = zz_I (-20) by decide, zz_ltI ⟨by omega, by omega⟩ ⟨by omega, by omega⟩]
      omega
    have q3 : ¬ 20 < p2 := by
      rw [e2, show (20 : Int32) = zz_I 20 by decide, zz_ltI ⟨by omega, by omega⟩ ⟨by omega, by omega⟩]
      omega
    exact br_f q0.1 (br_f q0.2 (br_f q1.1 (br_f q1.2 (br_f q2 (br_f q3 (ll_101 ⟨fun z => absurd z (by decide), fun _ => rfl⟩ m8 m9 m10 m11 m12 hp))))))
  · have g : gg_G false 0 0 0 0 (fun _ => 0) (fun _ => 0) (fun _ => 0) := ⟨rfl, ⟨by omega, by omega, by omega, by omega⟩, ⟨rfl, rfl, zz_0⟩, fun k hk _ => ⟨rfl, rfl⟩⟩
    have hq : false = true → p0 = nI 0 ∧ p1 = nI 0 ∧ p2 = zz_I 0 := fun z => absurd z (by decide)
    have h13 : (0 : Int32) = if false = true then 1 else 0 := rfl
    refine la_least g h13 hq (fun r8 m8 x1 x2 x3 y4 y5 y6 y7 y8 y9 y10 y11 y12 y13 y14 y15 y16 y17 y18 y19 => la_on g h13 hq (fun r9 m9 x1 x2 x3 y4 y5 y6 y7 y8 y9 y10 y11 y12 y13 y14 y15 y16 y17 y18 y19 => la_mean g h13 hq (fun r10 m10 x1 x2 x3 y4 y5 y6 y7 y8 y9 y10 y11 y12 y13 y14 y15 y16 y17 y18 y19 => la_wide g h13 hq (fun r11 m11 x1 x2 x3 y4 y5 y6 y7 y8 y9 y10 y11 y12 y13 y14 y15 y16 y17 y18 y19 => la_calm g h13 hq (fun r12 m12 x1 x2 x3 y4 y5 y6 y7 y8 y9 y10 y11 y12 y13 y14 y15 y16 y17 y18 y19 => ?_)))))
    have K : ∀ {mc ms kc ks : Nat}, wL_lawOf_101 post mc ms p0 p1 p2 p3 p4 p5 (-1000) r8 r9 r10 r11 r12 0 kc ks := ll_101 ⟨fun _ => rfl, fun z => absurd rfl z⟩ m8 m9 m10 m11 m12 hp
    exact br_c (fun _ => K) (fun z0 => br_c (fun _ => K) (fun z1 => br_c (fun _ => K) (fun z2 => br_c (fun _ => K) (fun z3 => br_c (fun _ => K) (fun z4 => br_c (fun _ => K) (fun z5 => absurd ⟨la_i7.mp ⟨z0, z1⟩, la_i7.mp ⟨z2, z3⟩, z4, z5⟩ hn))))))
end
theorem i_vc (xs : Nat → Int32) (L : Nat) (hL : L ≤ 6) : wpL_law (fun r => r = 1) L xs := by
  unfold wpL_law
  exact la_cell hL 0 (by omega) (fun r1 => la_cell hL 1 (by omega) (fun r2 => la_cell hL 2 (by omega) (fun r3 => la_cell hL 3 (by omega) (fun r4 => la_cell hL 4 (by omega) (fun r5 => la_cell hL 5 (by omega) (fun r6 => ⟨20, 414, by omega, by omega, la_lawOf rfl⟩))))))
end
