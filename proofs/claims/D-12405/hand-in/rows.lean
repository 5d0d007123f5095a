section
/-! whole numbers as ints -/
def rl_i (a : Int) : Int32 := Int32.ofInt a
theorem rl_add (a b : Int) : rl_i a + rl_i b = rl_i (a + b) := (Int32.ofInt_add a b).symm
theorem rl_sub (a b : Int) : rl_i a - rl_i b = rl_i (a - b) := (Int32.ofInt_sub a b).symm
theorem rl_mul (a b : Int) : rl_i a * rl_i b = rl_i (a * b) := (Int32.ofInt_mul a b).symm
theorem rl_nI (n : Nat) : nI n = rl_i (n : Int) := (Int32.ofInt_eq_ofNat).symm
theorem rl_toInt {a : Int} (h : -2147483648 ≤ a ∧ a ≤ 2147483647) : (rl_i a).toInt = a := Int32.toInt_ofInt_of_le (by omega) (by omega)
theorem rl_ex (x : Int32) : ∃ a : Int, (-2147483648 ≤ a ∧ a ≤ 2147483647) ∧ x = rl_i a :=
  ⟨x.toInt, ⟨by have := Int32.le_toInt x; omega, by have := Int32.toInt_lt x; omega⟩, (Int32.ofInt_toInt x).symm⟩
theorem rl_leI {a b : Int} (ha : -2147483648 ≤ a ∧ a ≤ 2147483647) (hb : -2147483648 ≤ b ∧ b ≤ 2147483647) : rl_i a ≤ rl_i b ↔ a ≤ b := by
  rw [Int32.le_iff_toInt_le, rl_toInt ha, rl_toInt hb]
theorem rl_ltI {a b : Int} (ha : -2147483648 ≤ a ∧ a ≤ 2147483647) (hb : -2147483648 ≤ b ∧ b ≤ 2147483647) : rl_i a < rl_i b ↔ a < b := by
  rw [Int32.lt_iff_toInt_lt, rl_toInt ha, rl_toInt hb]
theorem rl_eqI {a b : Int} (ha : -2147483648 ≤ a ∧ a ≤ 2147483647) (hb : -2147483648 ≤ b ∧ b ≤ 2147483647) : rl_i a = rl_i b ↔ a = b := by
  rw [← Int32.toInt_inj, rl_toInt ha, rl_toInt hb]
theorem rl_le {x y : Int32} {A B : Prop} (a b : Int) (hx : x = rl_i a) (hy : y = rl_i b) (ha : -2147483648 ≤ a ∧ a ≤ 2147483647) (hb : -2147483648 ≤ b ∧ b ≤ 2147483647) (f : a ≤ b → A) (g : b < a → B) : (x ≤ y → A) ∧ (¬ x ≤ y → B) := by
  subst hx hy
  rw [rl_leI ha hb]
  exact ⟨f, fun z => g (by omega)⟩
theorem rl_lt {x y : Int32} {A B : Prop} (a b : Int) (hx : x = rl_i a) (hy : y = rl_i b) (ha : -2147483648 ≤ a ∧ a ≤ 2147483647) (hb : -2147483648 ≤ b ∧ b ≤ 2147483647) (f : a < b → A) (g : b ≤ a → B) : (x < y → A) ∧ (¬ x < y → B) := by
  subst hx hy
  rw [rl_ltI ha hb]
  exact ⟨f, fun z => g (by omega)⟩
theorem rl_eq {x y : Int32} {A B : Prop} (a b : Int) (hx : x = rl_i a) (hy : y = rl_i b) (ha : -2147483648 ≤ a ∧ a ≤ 2147483647) (hb : -2147483648 ≤ b ∧ b ≤ 2147483647) (f : a = b → A) (g : ¬ a = b → B) : (x = y → A) ∧ (¬ x = y → B) := by
  subst hx hy
  rw [rl_eqI ha hb]
  exact ⟨f, g⟩
theorem rl_div {a b : Int} (ha0 : 0 ≤ a) (ha : a ≤ 2147483647) (hb0 : 0 < b) (hb : b ≤ 2147483647) : rl_i a / rl_i b = rl_i (a / b) := by
  obtain ⟨n, rfl⟩ := Int.eq_ofNat_of_zero_le ha0
  obtain ⟨d, rfl⟩ := Int.eq_ofNat_of_zero_le (Int.le_of_lt hb0)
  have e := pk_div (a := n) (d := d) (by omega) (by omega) (by omega)
  rw [rl_nI, rl_nI, rl_nI] at e
  rw [e]
  rfl
theorem rl_prod {a b A B : Int} (ha0 : 0 ≤ a) (ha : a ≤ A) (hb0 : 0 ≤ b) (hb : b ≤ B) : 0 ≤ a * b ∧ a * b ≤ A * B :=
  ⟨Int.mul_nonneg ha0 hb0, Int.mul_le_mul ha hb hb0 (Int.le_trans ha0 ha)⟩
/-! the picture of a meter: kind, rate, burst, span, grantedSum, deniedCount, tokens, filled, due, and the log as a list of (time, cost) -/
abbrev rl_Mt : Type := Int × Int × Int × Int × Int × Int × Int × Int × Int × List (Int × Int)
def rl_sum : List (Int × Int) → Int
  | [] => 0
  | p :: l => p.2 + rl_sum l
def rl_lok (t : Int) : Int → List (Int × Int) → Prop
  | _, [] => True
  | lo, p :: l => lo ≤ p.1 ∧ p.1 ≤ t ∧ 1 ≤ p.2 ∧ rl_lok t p.1 l
def rl_drop (e : Int) : List (Int × Int) → List (Int × Int)
  | [] => []
  | p :: l => if p.1 ≤ e then rl_drop e l else p :: l
def rl_lw (t sp : Int) : Int → Int → List (Int × Int) → Int
  | _, w, [] => w
  | ov, w, p :: l => if ov ≤ 0 then w else rl_lw t sp (ov - p.2) (p.1 + sp - t) l
def rl_ring (a13 a14 : Nat → Int32) (b : Nat) : Nat → List (Int × Int) → Prop
  | _, [] => True
  | h, p :: l => a13 (b + h % 32) = rl_i p.1 ∧ a14 (b + h % 32) = rl_i p.2 ∧ rl_ring a13 a14 b (h + 1) l
def rl_bs (t du : Int) : Int := if du ≤ t then t else du
def rl_cl (r : Int) : Int := if r ≤ 20 then r else 20
def rl_tk (t rt bu tk fl : Int) : Int := if bu ≤ tk + rt * (t - fl) then bu else tk + rt * (t - fl)
def rl_cu (t : Int) : rl_Mt → rl_Mt
  | (kd, rt, bu, sp, gs, dc, tk, fl, du, l) => (kd, rt, bu, sp, gs, dc, rl_tk t rt bu tk fl, t, du, rl_drop (t - sp) l)
def rl_rm (t : Int) : rl_Mt → Int
  | (kd, rt, bu, sp, gs, dc, tk, fl, du, l) => if kd = 0 then tk else if kd = 1 then bu - rl_sum l else (bu * sp - (rl_bs t du - t)) / sp
def rl_gr (t c : Int) : rl_Mt → rl_Mt
  | (kd, rt, bu, sp, gs, dc, tk, fl, du, l) => if kd = 0 then (kd, rt, bu, sp, gs + c, dc, tk - c, fl, du, l) else if kd = 1 then (kd, rt, bu, sp, gs + c, dc, tk, fl, du, l ++ [(t, c)]) else (kd, rt, bu, sp, gs + c, dc, tk, fl, rl_bs t du + c * sp, l)
def rl_dn : rl_Mt → rl_Mt
  | (kd, rt, bu, sp, gs, dc, tk, fl, du, l) => (kd, rt, bu, sp, gs, dc + 1, tk, fl, du, l)
def rl_wt (t c : Int) : rl_Mt → Int
  | (kd, rt, bu, sp, gs, dc, tk, fl, du, l) => if bu < c then -4 else if c ≤ rl_rm t (kd, rt, bu, sp, gs, dc, tk, fl, du, l) then 0 else if kd = 1 then rl_lw t sp (rl_sum l + c - bu) 0 l else if kd = 0 then (c - tk + rt - 1) / rt else du + (c - bu) * sp - t
def rl_bu : rl_Mt → Int
  | (kd, rt, bu, sp, gs, dc, tk, fl, du, l) => bu
def rl_gs : rl_Mt → Int
  | (kd, rt, bu, sp, gs, dc, tk, fl, du, l) => gs
def rl_dc : rl_Mt → Int
  | (kd, rt, bu, sp, gs, dc, tk, fl, du, l) => dc
def rl_ok (t G D : Int) : rl_Mt → Prop
  | (kd, rt, bu, sp, gs, dc, tk, fl, du, l) => (0 ≤ kd ∧ kd ≤ 2) ∧ (1 ≤ rt ∧ rt ≤ 5) ∧ (1 ≤ bu ∧ bu ≤ 30) ∧ (1 ≤ sp ∧ sp ≤ 10) ∧ (0 ≤ gs ∧ gs ≤ 20 * G) ∧ (0 ≤ dc ∧ dc ≤ D) ∧ (0 ≤ tk ∧ tk ≤ bu) ∧ (0 ≤ fl ∧ fl ≤ t) ∧ (-1000000 ≤ du ∧ du ≤ t + bu * sp) ∧ rl_lok t 0 l ∧ rl_sum l ≤ bu
/-! the log -/
theorem rl_lok_weak {t lo lo' : Int} {l : List (Int × Int)} (h : lo' ≤ lo) (hl : rl_lok t lo l) : rl_lok t lo' l := by
  cases l with
  | nil => trivial
  | cons p l => exact ⟨Int.le_trans h hl.1, hl.2⟩
theorem rl_lok_t {t t' : Int} (h : t ≤ t') : ∀ (l : List (Int × Int)) (lo : Int), rl_lok t lo l → rl_lok t' lo l := by
  intro l
  induction l with
  | nil => intro lo _; trivial
  | cons p l ih => intro lo hl; exact ⟨hl.1, Int.le_trans hl.2.1 h, hl.2.2.1, ih _ hl.2.2.2⟩
theorem rl_lok_drop {t e : Int} : ∀ (l : List (Int × Int)) (lo : Int), rl_lok t lo l → rl_lok t lo (rl_drop e l) := by
  intro l
  induction l with
  | nil => intro lo _; trivial
  | cons p l ih =>
    intro lo hl
    by_cases c : p.1 ≤ e
    · have e1 : rl_drop e (p :: l) = rl_drop e l := if_pos c
      rw [e1]
      exact rl_lok_weak hl.1 (ih _ hl.2.2.2)
    · have e1 : rl_drop e (p :: l) = p :: l := if_neg c
      rw [e1]
      exact hl
theorem rl_lok_dropE {t e : Int} : ∀ (l : List (Int × Int)) (lo : Int), rl_lok t lo l → rl_lok t (e + 1) (rl_drop e l) := by
  intro l
  induction l with
  | nil => intro lo _; trivial
  | cons p l ih =>
    intro lo hl
    by_cases c : p.1 ≤ e
    · have e1 : rl_drop e (p :: l) = rl_drop e l := if_pos c
      rw [e1]
      exact ih _ hl.2.2.2
    · have e1 : rl_drop e (p :: l) = p :: l := if_neg c
      rw [e1]
      exact ⟨by omega, hl.2⟩
theorem rl_drop_drop {e : Int} : ∀ (l : List (Int × Int)), rl_drop e (rl_drop e l) = rl_drop e l := by
  intro l
  induction l with
  | nil => rfl
  | cons p l ih =>
    by_cases c : p.1 ≤ e
    · have e1 : rl_drop e (p :: l) = rl_drop e l := if_pos c
      rw [e1]
      exact ih
    · have e1 : rl_drop e (p :: l) = p :: l := if_neg c
      rw [e1, e1]
theorem rl_len {t : Int} : ∀ (l : List (Int × Int)) (lo : Int), rl_lok t lo l → (l.length : Int) ≤ rl_sum l := by
  intro l
  induction l with
  | nil => intro lo _; exact Int.le_refl 0
  | cons p l ih =>
    intro lo hl
    have h1 := ih _ hl.2.2.2
    have h2 := hl.2.2.1
    have h3 : rl_sum (p :: l) = p.2 + rl_sum l := rfl
    rw [h3, List.length_cons]
    omega
theorem rl_sum_drop {t e : Int} : ∀ (l : List (Int × Int)) (lo : Int), rl_lok t lo l → rl_sum (rl_drop e l) ≤ rl_sum l := by
  intro l
  induction l with
  | nil => intro lo _; exact Int.le_refl 0
  | cons p l ih =>
    intro lo hl
    by_cases c : p.1 ≤ e
    · have e1 : rl_drop e (p :: l) = rl_drop e l := if_pos c
      have h1 := ih _ hl.2.2.2
      have h2 := hl.2.2.1
      have h3 : rl_sum (p :: l) = p.2 + rl_sum l := rfl
      rw [e1, h3]
      omega
    · have e1 : rl_drop e (p :: l) = p :: l := if_neg c
      rw [e1]
      exact Int.le_refl _
theorem rl_sum_app (t c : Int) : ∀ (l : List (Int × Int)), rl_sum (l ++ [(t, c)]) = rl_sum l + c := by
  intro l
  induction l with
  | nil => show c + 0 = 0 + c; omega
  | cons p l ih =>
    have h3 : rl_sum (p :: l) = p.2 + rl_sum l := rfl
    have h4 : rl_sum (p :: l ++ [(t, c)]) = p.2 + rl_sum (l ++ [(t, c)]) := rfl
    rw [h3, h4, ih]
    omega
theorem rl_lok_app {t c : Int} (hc : 1 ≤ c) : ∀ (l : List (Int × Int)) (lo : Int), lo ≤ t → rl_lok t lo l → rl_lok t lo (l ++ [(t, c)]) := by
  intro l
  induction l with
  | nil => intro lo h _; exact ⟨h, Int.le_refl t, hc, trivial⟩
  | cons p l ih => intro lo h hl; exact ⟨hl.1, hl.2.1, hl.2.2.1, ih _ hl.2.1 hl.2.2.2⟩
/-! the ring -/
theorem rl_ring_upd {a13 a14 : Nat → Int32} {b q : Nat} {x y : Int32} : ∀ (l : List (Int × Int)) (h : Nat), (∀ i, i < l.length → b + (h + i) % 32 ≠ q) → rl_ring a13 a14 b h l → rl_ring (upd a13 q x) (upd a14 q y) b h l := by
  intro l
  induction l with
  | nil => intro h _ _; trivial
  | cons p l ih =>
    intro h hd hr
    have h0 : b + h % 32 ≠ q := hd 0 (by rw [List.length_cons]; omega)
    refine ⟨by rw [pk_un h0]; exact hr.1, by rw [pk_un h0]; exact hr.2.1, ih (h + 1) (fun i hi => ?_) hr.2.2⟩
    have := hd (i + 1) (by rw [List.length_cons]; omega)
    rw [show h + 1 + i = h + (i + 1) by omega]
    exact this
theorem rl_ring_app {a13 a14 : Nat → Int32} {b : Nat} {p : Int × Int} : ∀ (l : List (Int × Int)) (h : Nat), rl_ring a13 a14 b h l → a13 (b + (h + l.length) % 32) = rl_i p.1 → a14 (b + (h + l.length) % 32) = rl_i p.2 → rl_ring a13 a14 b h (l ++ [p]) := by
  intro l
  induction l with
  | nil => intro h _ h1 h2; exact ⟨h1, h2, trivial⟩
  | cons q l ih =>
    intro h hr h1 h2
    rw [List.length_cons] at h1 h2
    refine ⟨hr.1, hr.2.1, ih (h + 1) hr.2.2 ?_ ?_⟩
    · rw [show h + 1 + l.length = h + (l.length + 1) by omega]; exact h1
    · rw [show h + 1 + l.length = h + (l.length + 1) by omega]; exact h2
theorem rl_ring_push {a13 a14 : Nat → Int32} {b h : Nat} {l : List (Int × Int)} {t c : Int} (hr : rl_ring a13 a14 b h l) (hl : l.length ≤ 31) :
    rl_ring (upd a13 (b + (h + l.length) % 32) (rl_i t)) (upd a14 (b + (h + l.length) % 32) (rl_i c)) b h (l ++ [(t, c)]) :=
  rl_ring_app l h (rl_ring_upd l h (fun i hi => by omega) hr) pk_us pk_us
theorem rl_ring_other {a13 a14 : Nat → Int32} {j m q h : Nat} {x y : Int32} {l : List (Int × Int)} (hj : j ≠ m) (hq : q < 32) (hr : rl_ring a13 a14 (j * 32) h l) :
    rl_ring (upd a13 (m * 32 + q) x) (upd a14 (m * 32 + q) y) (j * 32) h l :=
  rl_ring_upd l h (fun i hi => by omega) hr
/-! the log's waiting time -/
theorem rl_lw_ge {t sp : Int} : ∀ (l : List (Int × Int)) (lo ov w : Int), rl_lok t lo l → w ≤ lo + sp - t → w ≤ rl_lw t sp ov w l := by
  intro l
  induction l with
  | nil => intro lo ov w _ _; exact Int.le_refl w
  | cons p l ih =>
    intro lo ov w hl hw
    by_cases c : ov ≤ 0
    · have e1 : rl_lw t sp ov w (p :: l) = w := if_pos c
      rw [e1]
      exact Int.le_refl w
    · have e1 : rl_lw t sp ov w (p :: l) = rl_lw t sp (ov - p.2) (p.1 + sp - t) l := if_neg c
      rw [e1]
      have h1 := ih p.1 (ov - p.2) (p.1 + sp - t) hl.2.2.2 (Int.le_refl _)
      have h2 := hl.1
      omega
theorem rl_lw_le {t sp : Int} : ∀ (l : List (Int × Int)) (lo ov w : Int), rl_lok t lo l → w ≤ sp → rl_lw t sp ov w l ≤ sp := by
  intro l
  induction l with
  | nil => intro lo ov w _ h; exact h
  | cons p l ih =>
    intro lo ov w hl hw
    by_cases c : ov ≤ 0
    · have e1 : rl_lw t sp ov w (p :: l) = w := if_pos c
      rw [e1]
      exact hw
    · have e1 : rl_lw t sp ov w (p :: l) = rl_lw t sp (ov - p.2) (p.1 + sp - t) l := if_neg c
      rw [e1]
      have h2 := hl.2.1
      exact ih p.1 _ _ hl.2.2.2 (by omega)
theorem rl_lw_pos {t sp ov w : Int} {l : List (Int × Int)} (hl : rl_lok t (t - sp + 1) l) (h0 : 0 < ov) (h1 : ov ≤ rl_sum l) : 1 ≤ rl_lw t sp ov w l := by
  cases l with
  | nil => exact absurd (show ov ≤ 0 from h1) (by omega)
  | cons p l =>
    have e1 : rl_lw t sp ov w (p :: l) = rl_lw t sp (ov - p.2) (p.1 + sp - t) l := if_neg (by omega)
    rw [e1]
    have h2 := rl_lw_ge l p.1 (ov - p.2) (p.1 + sp - t) hl.2.2.2 (Int.le_refl _)
    have h3 := hl.1
    omega
theorem rl_lw_mono {t sp : Int} : ∀ (l : List (Int × Int)) (lo ov ov' w : Int), rl_lok t lo l → w ≤ lo + sp - t → ov ≤ ov' → rl_lw t sp ov w l ≤ rl_lw t sp ov' w l := by
  intro l
  induction l with
  | nil => intro lo ov ov' w _ _ _; exact Int.le_refl w
  | cons p l ih =>
    intro lo ov ov' w hl hw ho
    by_cases c : ov ≤ 0
    · have e1 : rl_lw t sp ov w (p :: l) = w := if_pos c
      rw [e1]
      exact rl_lw_ge (p :: l) lo ov' w hl hw
    · have e1 : rl_lw t sp ov w (p :: l) = rl_lw t sp (ov - p.2) (p.1 + sp - t) l := if_neg c
      have e2 : rl_lw t sp ov' w (p :: l) = rl_lw t sp (ov' - p.2) (p.1 + sp - t) l := if_neg (by omega)
      rw [e1, e2]
      exact ih p.1 _ _ _ hl.2.2.2 (Int.le_refl _) (by omega)
/-! a meter's laws -/
theorem rl_tk_in {t rt bu tk fl : Int} (hr : 1 ≤ rt) (hb : 1 ≤ bu) (h0 : 0 ≤ tk) (h1 : fl ≤ t) : 0 ≤ rl_tk t rt bu tk fl ∧ rl_tk t rt bu tk fl ≤ bu := by
  have h := Int.mul_nonneg (show (0 : Int) ≤ rt by omega) (show (0 : Int) ≤ t - fl by omega)
  unfold rl_tk
  generalize rt * (t - fl) = x at h ⊢
  split <;> omega
theorem rl_tk_tk {t rt bu tk fl : Int} : rl_tk t rt bu (rl_tk t rt bu tk fl) t = rl_tk t rt bu tk fl := by
  unfold rl_tk
  rw [Int.sub_self, Int.mul_zero, Int.add_zero]
  generalize tk + rt * (t - fl) = x
  by_cases c : bu ≤ x
  · rw [if_pos c, if_pos (Int.le_refl bu)]
  · rw [if_neg c, if_neg c]
theorem rl_cu_ok {t G D : Int} {M : rl_Mt} (ht : 0 ≤ t) (h : rl_ok t G D M) : rl_ok t G D (rl_cu t M) := by
  obtain ⟨kd, rt, bu, sp, gs, dc, tk, fl, du, l⟩ := M
  obtain ⟨h1, h2, h3, h4, h5, h6, h7, h8, h9, h10, h11⟩ := h
  refine ⟨h1, h2, h3, h4, h5, h6, rl_tk_in h2.1 h3.1 h7.1 h8.2, ⟨ht, Int.le_refl t⟩, h9, rl_lok_drop l 0 h10, ?_⟩
  exact Int.le_trans (rl_sum_drop l 0 h10) h11
theorem rl_cu_cu {t : Int} {M : rl_Mt} : rl_cu t (rl_cu t M) = rl_cu t M := by
  obtain ⟨kd, rt, bu, sp, gs, dc, tk, fl, du, l⟩ := M
  show (kd, rt, bu, sp, gs, dc, rl_tk t rt bu (rl_tk t rt bu tk fl) t, t, du, rl_drop (t - sp) (rl_drop (t - sp) l)) = (kd, rt, bu, sp, gs, dc, rl_tk t rt bu tk fl, t, du, rl_drop (t - sp) l)
  rw [rl_tk_tk, rl_drop_drop]
theorem rl_ok_mono {t t' G D G' D' : Int} {M : rl_Mt} (ht : t ≤ t') (hG : G ≤ G') (hD : D ≤ D') (h : rl_ok t G D M) : rl_ok t' G' D' M := by
  obtain ⟨kd, rt, bu, sp, gs, dc, tk, fl, du, l⟩ := M
  obtain ⟨h1, h2, h3, h4, h5, h6, h7, h8, h9, h10, h11⟩ := h
  exact ⟨h1, h2, h3, h4, ⟨h5.1, by omega⟩, ⟨h6.1, by omega⟩, h7, ⟨h8.1, by omega⟩, ⟨h9.1, by omega⟩, rl_lok_t ht l 0 h10, h11⟩
theorem rl_dn_ok {t G D : Int} {M : rl_Mt} (h : rl_ok t G D M) : rl_ok t G (D + 1) (rl_dn M) := by
  obtain ⟨kd, rt, bu, sp, gs, dc, tk, fl, du, l⟩ := M
  obtain ⟨h1, h2, h3, h4, h5, h6, h7, h8, h9, h10, h11⟩ := h
  exact ⟨h1, h2, h3, h4, h5, ⟨by omega, by omega⟩, h7, h8, h9, h10, h11⟩
theorem rl_rm_in {t G D : Int} {M : rl_Mt} (h : rl_ok t G D M) : 0 ≤ rl_rm t M ∧ rl_rm t M ≤ 30 := by
  obtain ⟨kd, rt, bu, sp, gs, dc, tk, fl, du, l⟩ := M
  obtain ⟨h1, h2, h3, h4, h5, h6, h7, h8, h9, h10, h11⟩ := h
  have hs := rl_len l 0 h10
  show 0 ≤ (if kd = 0 then tk else if kd = 1 then bu - rl_sum l else (bu * sp - (rl_bs t du - t)) / sp) ∧ (if kd = 0 then tk else if kd = 1 then bu - rl_sum l else (bu * sp - (rl_bs t du - t)) / sp) ≤ 30
  by_cases c0 : kd = 0
  · rw [if_pos c0]; omega
  · rw [if_neg c0]
    by_cases c1 : kd = 1
    · rw [if_pos c1]; omega
    · rw [if_neg c1]
      have hb : t ≤ rl_bs t du ∧ rl_bs t du ≤ t + bu * sp := by
        have := rl_prod (show (0 : Int) ≤ bu by omega) h3.2 (show (0 : Int) ≤ sp by omega) h4.2
        unfold rl_bs
        generalize bu * sp = x at *
        split <;> omega
      refine ⟨Int.ediv_nonneg (by omega) (by omega), Int.le_trans (Int.ediv_le_of_le_mul (b := bu) (by omega) (by omega)) h3.2⟩
theorem rl_gr_ok {t c G D : Int} {M : rl_Mt} (ht : 0 ≤ t) (hc : 1 ≤ c ∧ c ≤ 20) (h : rl_ok t G D M) (hr : c ≤ rl_rm t M) : rl_ok t (G + 1) D (rl_gr t c M) := by
  obtain ⟨kd, rt, bu, sp, gs, dc, tk, fl, du, l⟩ := M
  obtain ⟨h1, h2, h3, h4, h5, h6, h7, h8, h9, h10, h11⟩ := h
  have h5' : 0 ≤ gs + c ∧ gs + c ≤ 20 * (G + 1) := by omega
  by_cases c0 : kd = 0
  · have e : rl_gr t c (kd, rt, bu, sp, gs, dc, tk, fl, du, l) = (kd, rt, bu, sp, gs + c, dc, tk - c, fl, du, l) := if_pos c0
    have er : rl_rm t (kd, rt, bu, sp, gs, dc, tk, fl, du, l) = tk := if_pos c0
    rw [er] at hr
    rw [e]
    exact ⟨h1, h2, h3, h4, h5', h6, ⟨by omega, by omega⟩, h8, h9, h10, h11⟩
  · by_cases c1 : kd = 1
    · have e : rl_gr t c (kd, rt, bu, sp, gs, dc, tk, fl, du, l) = (kd, rt, bu, sp, gs + c, dc, tk, fl, du, l ++ [(t, c)]) := (if_neg c0).trans (if_pos c1)
      have er : rl_rm t (kd, rt, bu, sp, gs, dc, tk, fl, du, l) = bu - rl_sum l := (if_neg c0).trans (if_pos c1)
      rw [er] at hr
      rw [e]
      exact ⟨h1, h2, h3, h4, h5', h6, h7, h8, h9, rl_lok_app hc.1 l 0 ht h10, by rw [rl_sum_app]; omega⟩
    · have e : rl_gr t c (kd, rt, bu, sp, gs, dc, tk, fl, du, l) = (kd, rt, bu, sp, gs + c, dc, tk, fl, rl_bs t du + c * sp, l) := (if_neg c0).trans (if_neg c1)
      have er : rl_rm t (kd, rt, bu, sp, gs, dc, tk, fl, du, l) = (bu * sp - (rl_bs t du - t)) / sp := (if_neg c0).trans (if_neg c1)
      rw [er, Int.le_ediv_iff_mul_le (by omega)] at hr
      rw [e]
      have hp := Int.mul_nonneg (show (0 : Int) ≤ c by omega) (show (0 : Int) ≤ sp by omega)
      have hb : t ≤ rl_bs t du := by unfold rl_bs; split <;> omega
      exact ⟨h1, h2, h3, h4, h5', h6, h7, h8, ⟨by omega, by omega⟩, h10, h11⟩
/-- what the law asks of the waiting times: at one cost -/
theorem rl_wt_one {t G D : Int} {M : rl_Mt} (hM : rl_cu t M = M) (h : rl_ok t G D M) (c : Int) (hc : 1 ≤ c ∧ c ≤ 20) :
    (c ≤ rl_rm t M ∧ rl_wt t c M = 0) ∨ (rl_rm t M < c ∧ rl_bu M < c ∧ rl_wt t c M = -4) ∨ (rl_rm t M < c ∧ 1 ≤ rl_wt t c M ∧ rl_wt t c M ≤ 300) := by
  obtain ⟨kd, rt, bu, sp, gs, dc, tk, fl, du, l⟩ := M
  have hrm := rl_rm_in h
  obtain ⟨h1, h2, h3, h4, h5, h6, h7, h8, h9, h10, h11⟩ := h
  have hl : rl_lok t (t - sp + 1) l := by
    have e : rl_drop (t - sp) l = l := congrArg (fun x : rl_Mt => x.2.2.2.2.2.2.2.2.2) hM
    rw [← e]
    exact rl_lok_dropE l 0 h10
  have hs := rl_len l 0 h10
  have hbs : t ≤ rl_bs t du ∧ rl_bs t du ≤ t + bu * sp := by
    have := rl_prod (show (0 : Int) ≤ bu by omega) h3.2 (show (0 : Int) ≤ sp by omega) h4.2
    unfold rl_bs
    generalize bu * sp = x at *
    split <;> omega
  have hle : rl_rm t (kd, rt, bu, sp, gs, dc, tk, fl, du, l) ≤ bu := by
    show (if kd = 0 then tk else if kd = 1 then bu - rl_sum l else (bu * sp - (rl_bs t du - t)) / sp) ≤ bu
    split
    · omega
    · split
      · omega
      · exact Int.ediv_le_of_le_mul (by omega) (by omega)
  have ew : rl_wt t c (kd, rt, bu, sp, gs, dc, tk, fl, du, l) = if bu < c then -4 else if c ≤ rl_rm t (kd, rt, bu, sp, gs, dc, tk, fl, du, l) then 0 else if kd = 1 then rl_lw t sp (rl_sum l + c - bu) 0 l else if kd = 0 then (c - tk + rt - 1) / rt else du + (c - bu) * sp - t := rfl
  rw [ew]
  by_cases g : bu < c
  · rw [if_pos g]
    exact Or.inr (Or.inl ⟨by omega, g, rfl⟩)
  · rw [if_neg g]
    by_cases g2 : c ≤ rl_rm t (kd, rt, bu, sp, gs, dc, tk, fl, du, l)
    · rw [if_pos g2]
      exact Or.inl ⟨g2, rfl⟩
    · rw [if_neg g2]
      refine Or.inr (Or.inr ⟨by omega, ?_⟩)
      by_cases c1 : kd = 1
      · rw [if_pos c1]
        have er : rl_rm t (kd, rt, bu, sp, gs, dc, tk, fl, du, l) = bu - rl_sum l := (if_neg (by omega)).trans (if_pos c1)
        rw [er] at g2
        have hx := rl_lw_le l 0 (rl_sum l + c - bu) 0 h10 (show (0 : Int) ≤ sp by omega)
        exact ⟨rl_lw_pos hl (by omega) (by omega), by omega⟩
      · rw [if_neg c1]
        by_cases c0 : kd = 0
        · rw [if_pos c0]
          have er : rl_rm t (kd, rt, bu, sp, gs, dc, tk, fl, du, l) = tk := if_pos c0
          rw [er] at g2
          refine ⟨(Int.le_ediv_iff_mul_le (by omega)).mpr (by omega), ?_⟩
          exact Int.le_trans (Int.ediv_le_self rt (by omega)) (by omega)
        · rw [if_neg c0]
          have er : rl_rm t (kd, rt, bu, sp, gs, dc, tk, fl, du, l) = (bu * sp - (rl_bs t du - t)) / sp := (if_neg c0).trans (if_neg c1)
          rw [er, Int.le_ediv_iff_mul_le (by omega)] at g2
          have hp := rl_prod (show (0 : Int) ≤ c by omega) hc.2 (show (0 : Int) ≤ sp by omega) h4.2
          have hq := Int.mul_le_mul_of_nonneg_right (show c ≤ bu by omega) (show (0 : Int) ≤ sp by omega)
          rw [Int.sub_mul]
          unfold rl_bs at g2 hbs
          generalize bu * sp = x at *
          generalize c * sp = y at *
          split at g2 <;> omega
/-- and from one cost to the next -/
theorem rl_wt_two {t G D : Int} {M : rl_Mt} (hM : rl_cu t M = M) (h : rl_ok t G D M) (c : Int) (hc : 1 ≤ c ∧ c + 1 ≤ 20) :
    (rl_wt t c M = -4 → rl_wt t (c + 1) M = -4) ∧ (rl_wt t (c + 1) M = -4 ∨ rl_wt t c M ≤ rl_wt t (c + 1) M) := by
  have w1 := rl_wt_one hM h c (by omega)
  have w2 := rl_wt_one hM h (c + 1) (by omega)
  have hrm := rl_rm_in h
  obtain ⟨kd, rt, bu, sp, gs, dc, tk, fl, du, l⟩ := M
  obtain ⟨h1, h2, h3, h4, h5, h6, h7, h8, h9, h10, h11⟩ := h
  have hl : rl_lok t (t - sp + 1) l := by
    have e : rl_drop (t - sp) l = l := congrArg (fun x : rl_Mt => x.2.2.2.2.2.2.2.2.2) hM
    rw [← e]
    exact rl_lok_dropE l 0 h10
  have ew : ∀ c, rl_wt t c (kd, rt, bu, sp, gs, dc, tk, fl, du, l) = if bu < c then -4 else if c ≤ rl_rm t (kd, rt, bu, sp, gs, dc, tk, fl, du, l) then 0 else if kd = 1 then rl_lw t sp (rl_sum l + c - bu) 0 l else if kd = 0 then (c - tk + rt - 1) / rt else du + (c - bu) * sp - t := fun _ => rfl
  by_cases g' : bu < c + 1
  · have e' : rl_wt t (c + 1) (kd, rt, bu, sp, gs, dc, tk, fl, du, l) = -4 := (ew (c + 1)).trans (if_pos g')
    exact ⟨fun _ => e', Or.inl e'⟩
  · by_cases g2 : c ≤ rl_rm t (kd, rt, bu, sp, gs, dc, tk, fl, du, l)
    · have e1 : rl_wt t c (kd, rt, bu, sp, gs, dc, tk, fl, du, l) = 0 := by
        rw [ew, if_neg (by omega), if_pos g2]
      rw [e1] at w1 ⊢
      refine ⟨fun z => absurd z (by decide), ?_⟩
      omega
    · have e1 : rl_wt t c (kd, rt, bu, sp, gs, dc, tk, fl, du, l) = if kd = 1 then rl_lw t sp (rl_sum l + c - bu) 0 l else if kd = 0 then (c - tk + rt - 1) / rt else du + (c - bu) * sp - t := by
        rw [ew, if_neg (by omega), if_neg g2]
      have e2 : rl_wt t (c + 1) (kd, rt, bu, sp, gs, dc, tk, fl, du, l) = if kd = 1 then rl_lw t sp (rl_sum l + (c + 1) - bu) 0 l else if kd = 0 then ((c + 1) - tk + rt - 1) / rt else du + ((c + 1) - bu) * sp - t := by
        rw [ew, if_neg (by omega), if_neg (by omega)]
      have key : rl_wt t c (kd, rt, bu, sp, gs, dc, tk, fl, du, l) ≤ rl_wt t (c + 1) (kd, rt, bu, sp, gs, dc, tk, fl, du, l) := by
        rw [e1, e2]
        by_cases c1 : kd = 1
        · rw [if_pos c1, if_pos c1]
          exact rl_lw_mono l (t - sp + 1) _ _ 0 hl (by omega) (by omega)
        · rw [if_neg c1, if_neg c1]
          by_cases c0 : kd = 0
          · rw [if_pos c0, if_pos c0]
            exact Int.ediv_le_ediv (by omega) (by omega)
          · rw [if_neg c0, if_neg c0]
            have hq := Int.mul_le_mul_of_nonneg_right (show c - bu ≤ c + 1 - bu by omega) (show (0 : Int) ≤ sp by omega)
            omega
      have hb : rl_bu (kd, rt, bu, sp, gs, dc, tk, fl, du, l) = bu := rfl
      rw [hb] at w1
      exact ⟨fun z => by omega, Or.inr key⟩
end
section
/-! the state against the picture -/
def rl_A (x1 x2 x3 x4 x5 x6 x7 x8 x9 x10 x11 x12 : Int32) (a13 a14 : Nat → Int32) (m : Nat) : rl_Mt → Prop
  | (kd, rt, bu, sp, gs, dc, tk, fl, du, l) => x1 = rl_i kd ∧ x2 = rl_i rt ∧ x3 = rl_i bu ∧ x4 = rl_i sp ∧ x5 = rl_i gs ∧ x6 = rl_i dc ∧ x7 = rl_i tk ∧ x8 = rl_i fl ∧ x9 = rl_i du ∧ ∃ h : Nat, x10 = nI (h % 32) ∧ x11 = nI l.length ∧ x12 = rl_i (rl_sum l) ∧ rl_ring a13 a14 (m * 32) h l
def rl_Rel (t : Int) (P : Nat → rl_Mt) : St1 → Prop
  | (f0, a1, a2, a3, a4, a5, a6, a7, a8, a9, a10, a11, a12, a13, a14) => f0 = rl_i t ∧ ∀ m, m < 4 → rl_A (a1 m) (a2 m) (a3 m) (a4 m) (a5 m) (a6 m) (a7 m) (a8 m) (a9 m) (a10 m) (a11 m) (a12 m) a13 a14 m (P m)
def rl_up (P : Nat → rl_Mt) (m : Nat) (M : rl_Mt) : Nat → rl_Mt := fun j => if j = m then M else P j
theorem rl_up_s {P : Nat → rl_Mt} {m : Nat} {M : rl_Mt} : rl_up P m M m = M := if_pos rfl
theorem rl_up_n {P : Nat → rl_Mt} {m j : Nat} {M : rl_Mt} (h : j ≠ m) : rl_up P m M j = P j := if_neg h
theorem rl_up_up {P : Nat → rl_Mt} {m : Nat} {M M' : rl_Mt} : rl_up (rl_up P m M) m M' = rl_up P m M' := by
  funext j
  by_cases e : j = m
  · rw [e, rl_up_s, rl_up_s]
  · rw [rl_up_n e, rl_up_n e, rl_up_n e]
theorem rl_up_id {P : Nat → rl_Mt} {m : Nat} {M : rl_Mt} (h : P m = M) : rl_up P m M = P := by
  funext j
  by_cases e : j = m
  · rw [e, rl_up_s, h]
  · rw [rl_up_n e]
/-! bad, badCost -/
theorem rl_bad_in {post : Int32 → Prop} {m : Nat} (hm : m < 4) (H : post 0) : wpX_bad post () (nI m) :=
  br_f (nI_pos (by omega)) (pk_lt m 4 (fun _ => H) (fun z => absurd z (by omega)))
theorem rl_bad_out {post : Int32 → Prop} {x : Int32} (hx : x < 0 ∨ ¬ x < 4) (H : post 1) : wpX_bad post () x :=
  br_c (fun _ => H) (fun z => br_f (hx.resolve_left z) H)
theorem rl_bc_in {post : Int32 → Prop} {c : Int} (hc : 1 ≤ c ∧ c ≤ 20) (H : post 0) : wpX_badCost post () (rl_i c) :=
  rl_lt c 1 rfl rfl (by omega) (by omega) (fun z => absurd z (by omega)) (fun _ => rl_le c 20 rfl rfl (by omega) (by omega) (fun _ => H) (fun z => absurd z (by omega)))
theorem rl_bc_out {post : Int32 → Prop} {x : Int32} (hx : x < 1 ∨ ¬ x ≤ 20) (H : post 1) : wpX_badCost post () x :=
  br_c (fun _ => H) (fun z => br_f (hx.resolve_left z) H)
/-! the counters -/
theorem rl_gsA {t : Int} {P : Nat → rl_Mt} {m : Nat} {f0 : Int32} {a1 a2 a3 a4 a5 a6 a7 a8 a9 a10 a11 a12 a13 a14 : Nat → Int32} (hm : m < 4) (hR : rl_Rel t P (f0, a1, a2, a3, a4, a5, a6, a7, a8, a9, a10, a11, a12, a13, a14)) : a5 m = rl_i (rl_gs (P m)) := by
  have h := hR.2 m hm
  rcases e : P m with ⟨kd, rt, bu, sp, gs, dc, tk, fl, du, l⟩
  rw [e] at h
  exact h.2.2.2.2.1
theorem rl_dcA {t : Int} {P : Nat → rl_Mt} {m : Nat} {f0 : Int32} {a1 a2 a3 a4 a5 a6 a7 a8 a9 a10 a11 a12 a13 a14 : Nat → Int32} (hm : m < 4) (hR : rl_Rel t P (f0, a1, a2, a3, a4, a5, a6, a7, a8, a9, a10, a11, a12, a13, a14)) : a6 m = rl_i (rl_dc (P m)) := by
  have h := hR.2 m hm
  rcases e : P m with ⟨kd, rt, bu, sp, gs, dc, tk, fl, du, l⟩
  rw [e] at h
  exact h.2.2.2.2.2.1
theorem rl_granted {post : Int32 → Prop} {t : Int} {P : Nat → rl_Mt} {m : Nat} {f0 : Int32} {a1 a2 a3 a4 a5 a6 a7 a8 a9 a10 a11 a12 a13 a14 : Nat → Int32} (hm : m < 4) (hR : rl_Rel t P (f0, a1, a2, a3, a4, a5, a6, a7, a8, a9, a10, a11, a12, a13, a14)) (H : post (rl_i (rl_gs (P m)))) : wpX_granted post (f0, a1, a2, a3, a4, a5, a6, a7, a8, a9, a10, a11, a12, a13, a14) (nI m) := by
  unfold wpX_granted
  dsimp only
  refine rl_bad_in hm (br_t rfl ⟨pk_in m 4 hm, ?_⟩)
  rw [nI_clamp (show m < 2 ^ 31 by omega), rl_gsA hm hR]
  exact H
theorem rl_granted_out {post : Int32 → Prop} {x : Int32} {f0 : Int32} {a1 a2 a3 a4 a5 a6 a7 a8 a9 a10 a11 a12 a13 a14 : Nat → Int32} (hx : x < 0 ∨ ¬ x < 4) (H : post (-1)) : wpX_granted post (f0, a1, a2, a3, a4, a5, a6, a7, a8, a9, a10, a11, a12, a13, a14) x := by
  unfold wpX_granted
  dsimp only
  exact rl_bad_out hx (br_f (by decide) H)
theorem rl_denied {post : Int32 → Prop} {t : Int} {P : Nat → rl_Mt} {m : Nat} {f0 : Int32} {a1 a2 a3 a4 a5 a6 a7 a8 a9 a10 a11 a12 a13 a14 : Nat → Int32} (hm : m < 4) (hR : rl_Rel t P (f0, a1, a2, a3, a4, a5, a6, a7, a8, a9, a10, a11, a12, a13, a14)) (H : post (rl_i (rl_dc (P m)))) : wpX_denied post (f0, a1, a2, a3, a4, a5, a6, a7, a8, a9, a10, a11, a12, a13, a14) (nI m) := by
  unfold wpX_denied
  dsimp only
  refine rl_bad_in hm (br_t rfl ⟨pk_in m 4 hm, ?_⟩)
  rw [nI_clamp (show m < 2 ^ 31 by omega), rl_dcA hm hR]
  exact H
theorem rl_denied_out {post : Int32 → Prop} {x : Int32} {f0 : Int32} {a1 a2 a3 a4 a5 a6 a7 a8 a9 a10 a11 a12 a13 a14 : Nat → Int32} (hx : x < 0 ∨ ¬ x < 4) (H : post (-1)) : wpX_denied post (f0, a1, a2, a3, a4, a5, a6, a7, a8, a9, a10, a11, a12, a13, a14) x := by
  unfold wpX_denied
  dsimp only
  exact rl_bad_out hx (br_f (by decide) H)
/-! start, the constructor -/
theorem rl_start {post : St1 → Prop} {t : Int} {P : Nat → rl_Mt} {m : Nat} {kd rt bu sp : Int} {f0 : Int32} {a1 a2 a3 a4 a5 a6 a7 a8 a9 a10 a11 a12 a13 a14 : Nat → Int32} (hm : m < 4) (hR : rl_Rel t P (f0, a1, a2, a3, a4, a5, a6, a7, a8, a9, a10, a11, a12, a13, a14))
    (H : ∀ u, rl_Rel t (rl_up P m (kd, rt, bu, sp, 0, 0, bu, t, -1000000, [])) u → post u) : wpX_start post (f0, a1, a2, a3, a4, a5, a6, a7, a8, a9, a10, a11, a12, a13, a14) (nI m) (rl_i kd) (rl_i rt) (rl_i bu) (rl_i sp) := by
  have i4 : vp_in (nI m) 4 := pk_in m 4 hm
  have hc : (nI m).toNatClampNeg = m := nI_clamp (by omega)
  unfold wpX_start
  dsimp only
  rw [hc]
  refine ⟨i4, nm_e ⟨i4, nm_e ⟨i4, nm_e ⟨i4, nm_e ⟨i4, nm_e ⟨i4, nm_e ⟨i4, nm_e ⟨i4, nm_e ⟨i4, nm_e ⟨i4, nm_e ⟨i4, nm_e ⟨i4, nm_e (H _ ?_)⟩⟩⟩⟩⟩⟩⟩⟩⟩⟩⟩⟩
  refine ⟨hR.1, fun j hj => ?_⟩
  by_cases e : j = m
  · rw [e, rl_up_s]
    simp only [pk_us]
    exact ⟨rfl, rfl, rfl, rfl, rfl, rfl, rfl, hR.1, rfl, 0, rfl, rfl, rfl, trivial⟩
  · rw [rl_up_n e]
    simp only [pk_un e]
    exact hR.2 j hj
def rl_M0 : rl_Mt := (0, 1, 10, 1, 0, 0, 10, 0, -1000000, [])
theorem rl_initL {post : St1 → Prop} {mc ms kc ks : Nat} (H : ∀ P u, rl_Rel 0 P u → (∀ j, j < 4 → P j = rl_M0) → post u) :
    ∀ (d k : Nat) (P : Nat → rl_Mt) (f0 : Int32) (a1 a2 a3 a4 a5 a6 a7 a8 a9 a10 a11 a12 a13 a14 : Nat → Int32), k + d = 4 → rl_Rel 0 P (f0, a1, a2, a3, a4, a5, a6, a7, a8, a9, a10, a11, a12, a13, a14) → (∀ j, j < k → P j = rl_M0) → wX_init_108 post mc ms kc ks (d + 1) (nI k) f0 a1 a2 a3 a4 a5 a6 a7 a8 a9 a10 a11 a12 a13 a14 := by
  intro d
  induction d with
  | zero =>
    intro k P f0 a1 a2 a3 a4 a5 a6 a7 a8 a9 a10 a11 a12 a13 a14 hk hR hP
    exact pk_le 4 k (fun _ => H P _ hR (fun j hj => hP j (by omega))) (fun z => absurd z (by omega))
  | succ d ih =>
    intro k P f0 a1 a2 a3 a4 a5 a6 a7 a8 a9 a10 a11 a12 a13 a14 hk hR hP
    refine pk_le 4 k (fun z => absurd z (by omega)) (fun z => ?_)
    refine rl_start (kd := 0) (rt := 1) (bu := 10) (sp := 1) (by omega) hR ?_
    rintro ⟨f0x, a1x, a2x, a3x, a4x, a5x, a6x, a7x, a8x, a9x, a10x, a11x, a12x, a13x, a14x⟩ hR'
    refine nm_r (nI_1 k) (ih (k + 1) _ f0x a1x a2x a3x a4x a5x a6x a7x a8x a9x a10x a11x a12x a13x a14x (by omega) hR' (fun j hj => ?_))
    by_cases e : j = k
    · rw [e, rl_up_s]; rfl
    · rw [rl_up_n e]
      exact hP j (by omega)
theorem rl_init {post : St1 → Prop} (H : ∀ P u, rl_Rel 0 P u → (∀ j, j < 4 → P j = rl_M0) → post u) : wpX_init post 14 304 0 := by
  unfold wpX_init
  refine ⟨by decide, by decide, by decide, by decide, by decide, by decide, by decide, by decide, by decide, by decide, by decide, by decide, by decide, by decide, by decide, by decide, by decide, by decide, by decide, by decide, by decide, by decide, by decide, by decide, by decide, by decide, by decide, by decide, 4 + 1, ?_⟩
  refine rl_initL H 4 0 (fun _ => (0, 0, 0, 0, 0, 0, 0, 0, 0, [])) _ _ _ _ _ _ _ _ _ _ _ _ _ _ _ rfl ⟨rfl, fun m hm => ?_⟩ (fun j hj => absurd hj (by omega))
  exact ⟨rfl, rfl, rfl, rfl, rfl, rfl, rfl, rfl, rfl, 0, rfl, rfl, rfl, trivial⟩
theorem rl_M0_ok : rl_ok 0 0 0 rl_M0 :=
  ⟨by decide, by decide, by decide, by decide, by decide, by decide, by decide, by decide, by decide, trivial, by decide⟩
/-! catchUp -/
theorem rl_cuL {post : St1 → Prop} {t : Int} {P : Nat → rl_Mt} {m : Nat} {kd rt bu sp gs dc tk fl du : Int} (hm : m < 4) (ht : 0 ≤ t ∧ t ≤ 100000) (hsp : 1 ≤ sp ∧ sp ≤ 10) :
    ∀ (l : List (Int × Int)) (k : Nat) (f0 : Int32) (a1 a2 a3 a4 a5 a6 a7 a8 a9 a10 a11 a12 a13 a14 : Nat → Int32), k + l.length ≤ 31 → rl_lok t 0 l → rl_Rel t (rl_up P m (kd, rt, bu, sp, gs, dc, tk, fl, du, l)) (f0, a1, a2, a3, a4, a5, a6, a7, a8, a9, a10, a11, a12, a13, a14) →
      (∀ u, rl_Rel t (rl_up P m (kd, rt, bu, sp, gs, dc, tk, fl, du, rl_drop (t - sp) l)) u → post u) → ∃ n, wX_catchUp_64 post (nI m) f0 n (nI k) a1 a2 a3 a4 a5 a6 a7 a8 a9 a10 a11 a12 a13 a14 := by
  have i4 : vp_in (nI m) 4 := pk_in m 4 hm
  have hc : (nI m).toNatClampNeg = m := nI_clamp (by omega)
  intro l
  induction l with
  | nil =>
    intro k f0 a1 a2 a3 a4 a5 a6 a7 a8 a9 a10 a11 a12 a13 a14 hk hl hR H
    refine ⟨0 + 1, pk_le 32 k (fun z => absurd z (by rw [List.length_nil] at hk; omega)) (fun _ => ⟨i4, ?_⟩)⟩
    have h := hR.2 m hm
    rw [rl_up_s] at h
    obtain ⟨h1, h2, h3, h4, h5, h6, h7, h8, h9, hh, h10, h11, h12, h13⟩ := h
    rw [hc, h11]
    exact br_t (show nI 0 ≤ 0 by decide) (H _ hR)
  | cons p l ih =>
    intro k f0 a1 a2 a3 a4 a5 a6 a7 a8 a9 a10 a11 a12 a13 a14 hk hl hR H
    rw [List.length_cons] at hk
    have h := hR.2 m hm
    rw [rl_up_s] at h
    obtain ⟨h1, h2, h3, h4, h5, h6, h7, h8, h9, hh, h10, h11, h12, h13⟩ := h
    have hix : nI m * 32 + nI (hh % 32) = nI (m * 32 + hh % 32) := by
      rw [show (32 : Int32) = nI 32 from rfl, pk_mul, nI_add]
    have hcx : (nI (m * 32 + hh % 32)).toNatClampNeg = m * 32 + hh % 32 := nI_clamp (by omega)
    have i128 : vp_in (nI (m * 32 + hh % 32)) 128 := pk_in (m * 32 + hh % 32) 128 (by omega)
    have q13 := h13.1
    have q14 := h13.2.1
    have hp := hl.1
    have hp2 := hl.2.1
    by_cases c : p.1 ≤ t - sp
    · have ed : rl_drop (t - sp) (p :: l) = rl_drop (t - sp) l := if_pos c
      rw [ed] at H
      have e12 : a12 m - a14 (m * 32 + hh % 32) = rl_i (rl_sum l) := by
        rw [h12, q14, rl_sub]
        show rl_i (p.2 + rl_sum l - p.2) = rl_i (rl_sum l)
        congr 1
        omega
      have e10 : (nI (hh % 32) + 1) &&& 31 = nI ((hh + 1) % 32) := by
        rw [nI_1, pk_andN (by omega) 5 (by decide)]
        congr 1
        omega
      have e11 : a11 m - 1 = nI l.length := by
        rw [h11, List.length_cons, nI_pred]
      have hR' : rl_Rel t (rl_up P m (kd, rt, bu, sp, gs, dc, tk, fl, du, l)) (f0, a1, a2, a3, a4, a5, a6, a7, a8, a9, upd a10 m (nI ((hh + 1) % 32)), upd a11 m (nI l.length), upd a12 m (rl_i (rl_sum l)), a13, a14) := by
        refine ⟨hR.1, fun j hj => ?_⟩
        by_cases e : j = m
        · rw [e, rl_up_s]
          simp only [pk_us]
          exact ⟨h1, h2, h3, h4, h5, h6, h7, h8, h9, hh + 1, rfl, rfl, rfl, h13.2.2⟩
        · have h' := hR.2 j hj
          rw [rl_up_n e] at h' ⊢
          simp only [pk_un e]
          exact h'
      obtain ⟨n, hn⟩ := ih (k + 1) _ _ _ _ _ _ _ _ _ _ _ _ _ _ _ (by omega) (rl_lok_weak hl.1 hl.2.2.2) hR' H
      refine ⟨n + 1, pk_le 32 k (fun z => absurd z (by omega)) (fun _ => ⟨i4, ?_⟩)⟩
      rw [hc, h10, hix, hcx]
      refine br_f (by rw [h11]; exact nI_nle (by rw [List.length_cons]; omega) (by rw [List.length_cons]; omega)) ⟨i4, i128, i4, ?_⟩
      refine rl_lt (t - sp) p.1 (by rw [hR.1, h4, rl_sub]) q13 (by omega) (by omega) (fun z => absurd z (by omega)) (fun _ => ?_)
      exact ⟨i4, i4, i128, i4, nm_r (congrArg (upd a12 m) e12) ⟨i4, i4, nm_r (congrArg (upd a10 m) e10) ⟨i4, i4, nm_r (congrArg (upd a11 m) e11) (nm_r (nI_1 k) hn)⟩⟩⟩
    · have ed : rl_drop (t - sp) (p :: l) = p :: l := if_neg c
      rw [ed] at H
      refine ⟨0 + 1, pk_le 32 k (fun z => absurd z (by omega)) (fun _ => ⟨i4, ?_⟩)⟩
      rw [hc, h10, hix, hcx]
      refine br_f (by rw [h11]; exact nI_nle (by rw [List.length_cons]; omega) (by rw [List.length_cons]; omega)) ⟨i4, i128, i4, ?_⟩
      exact rl_lt (t - sp) p.1 (by rw [hR.1, h4, rl_sub]) q13 (by omega) (by omega) (fun _ => H _ hR) (fun z => absurd z (by omega))
theorem rl_cu51 {post : St1 → Prop} {t : Int} {P : Nat → rl_Mt} {m : Nat} {v : Int} {kd rt bu sp gs dc tk fl du : Int} {l : List (Int × Int)} {f0 : Int32} {a1 a2 a3 a4 a5 a6 a7 a8 a9 a10 a11 a12 a13 a14 : Nat → Int32} (hm : m < 4) (ht : 0 ≤ t ∧ t ≤ 100000) (hsp : 1 ≤ sp ∧ sp ≤ 10) (hl : rl_lok t 0 l) (hs : rl_sum l ≤ 30)
    (hP : P m = (kd, rt, bu, sp, gs, dc, tk, fl, du, l)) (hR : rl_Rel t P (f0, a1, a2, a3, a4, a5, a6, a7, a8, a9, a10, a11, a12, a13, a14)) (H : ∀ u, rl_Rel t (rl_up P m (kd, rt, bu, sp, gs, dc, v, t, du, rl_drop (t - sp) l)) u → post u) : wX_catchUp_51 post (nI m) (rl_i v) (nI m) f0 a1 a2 a3 a4 a5 a6 a7 a8 a9 a10 a11 a12 a13 a14 := by
  have i4 : vp_in (nI m) 4 := pk_in m 4 hm
  have hc : (nI m).toNatClampNeg = m := nI_clamp (by omega)
  unfold wX_catchUp_51
  rw [hc]
  have hlen := rl_len l 0 hl
  refine ⟨i4, nm_e ⟨i4, nm_e (rl_cuL hm ht hsp l 0 _ _ _ _ _ _ _ _ _ _ _ _ _ _ _ (by omega) hl ⟨hR.1, fun j hj => ?_⟩ H)⟩⟩
  by_cases e : j = m
  · have h := hR.2 m hm
    rw [hP] at h
    obtain ⟨h1, h2, h3, h4, h5, h6, h7, h8, h9, h10⟩ := h
    rw [e, rl_up_s]
    simp only [pk_us]
    exact ⟨h1, h2, h3, h4, h5, h6, rfl, hR.1, h9, h10⟩
  · rw [rl_up_n e]
    simp only [pk_un e]
    exact hR.2 j hj
theorem rl_catchUp {post : St1 → Prop} {t G D : Int} {P : Nat → rl_Mt} {m : Nat} {f0 : Int32} {a1 a2 a3 a4 a5 a6 a7 a8 a9 a10 a11 a12 a13 a14 : Nat → Int32} (hm : m < 4) (ht : 0 ≤ t ∧ t ≤ 100000) (hk : rl_ok t G D (P m)) (hR : rl_Rel t P (f0, a1, a2, a3, a4, a5, a6, a7, a8, a9, a10, a11, a12, a13, a14))
    (H : ∀ u, rl_Rel t (rl_up P m (rl_cu t (P m))) u → post u) : wpX_catchUp post (f0, a1, a2, a3, a4, a5, a6, a7, a8, a9, a10, a11, a12, a13, a14) (nI m) := by
  have i4 : vp_in (nI m) 4 := pk_in m 4 hm
  have hc : (nI m).toNatClampNeg = m := nI_clamp (by omega)
  have h := hR.2 m hm
  rcases hM : P m with ⟨kd, rt, bu, sp, gs, dc, tk, fl, du, l⟩
  rw [hM] at hk h H
  obtain ⟨h1, h2, h3, h4, h5, h6, h7, h8, h9, h10⟩ := h
  obtain ⟨k1, k2, k3, k4, k5, k6, k7, k8, k9, k10, k11⟩ := hk
  have hp := rl_prod (show (0 : Int) ≤ rt by omega) k2.2 (show (0 : Int) ≤ t - fl by omega) (show t - fl ≤ 100000 by omega)
  have H' : ∀ u, rl_Rel t (rl_up P m (kd, rt, bu, sp, gs, dc, rl_tk t rt bu tk fl, t, du, rl_drop (t - sp) l)) u → post u := H
  unfold wpX_catchUp
  dsimp only
  rw [hc]
  refine ⟨i4, i4, i4, nm_r (show a7 m + a2 m * (f0 - a8 m) = rl_i (tk + rt * (t - fl)) by rw [h7, h2, h8, hR.1, rl_sub, rl_mul, rl_add]) ⟨i4, ?_⟩⟩
  refine rl_le bu (tk + rt * (t - fl)) h3 rfl (by omega) (by omega) (fun z => ⟨i4, ?_⟩) (fun z => ?_)
  · have e : rl_tk t rt bu tk fl = bu := if_pos z
    rw [e] at H'
    rw [h3]
    exact rl_cu51 hm ht k4 k10 (by omega) hM hR H'
  · have e : rl_tk t rt bu tk fl = tk + rt * (t - fl) := if_neg (by omega)
    rw [e] at H'
    exact rl_cu51 hm ht k4 k10 (by omega) hM hR H'
/-! base, roomOf, room -/
theorem rl_base {post : Int32 → Prop} {t du : Int} {m : Nat} {f0 : Int32} {a1 a2 a3 a4 a5 a6 a7 a8 a9 a10 a11 a12 a13 a14 : Nat → Int32} (hm : m < 4) (ht : 0 ≤ t ∧ t ≤ 100000) (hd : -1000000 ≤ du ∧ du ≤ 1000000) (h0 : f0 = rl_i t) (h9 : a9 m = rl_i du) (H : post (rl_i (rl_bs t du))) : wpX_base post (f0, a1, a2, a3, a4, a5, a6, a7, a8, a9, a10, a11, a12, a13, a14) (nI m) := by
  have i4 : vp_in (nI m) 4 := pk_in m 4 hm
  have hc : (nI m).toNatClampNeg = m := nI_clamp (by omega)
  unfold wpX_base
  dsimp only
  rw [hc, h9, h0]
  refine ⟨i4, rl_le du t rfl rfl (by omega) (by omega) (fun z => ?_) (fun z => ⟨i4, ?_⟩)⟩
  · have e : rl_bs t du = t := if_pos z
    rw [e] at H
    exact H
  · have e : rl_bs t du = du := if_neg (by omega)
    rw [e] at H
    exact H
theorem rl_bs_in {t du bu sp : Int} (hb : 1 ≤ bu ∧ bu ≤ 30) (hs : 1 ≤ sp ∧ sp ≤ 10) (hd : du ≤ t + bu * sp) : t ≤ rl_bs t du ∧ rl_bs t du ≤ t + bu * sp ∧ 0 ≤ bu * sp ∧ bu * sp ≤ 300 := by
  have := rl_prod (show (0 : Int) ≤ bu by omega) hb.2 (show (0 : Int) ≤ sp by omega) hs.2
  unfold rl_bs
  generalize bu * sp = x at *
  split <;> omega
theorem rl_roomOf {post : Int32 → St1 → Prop} {t G D : Int} {P : Nat → rl_Mt} {m : Nat} {f0 : Int32} {a1 a2 a3 a4 a5 a6 a7 a8 a9 a10 a11 a12 a13 a14 : Nat → Int32} (hm : m < 4) (ht : 0 ≤ t ∧ t ≤ 100000) (hk : rl_ok t G D (P m)) (hR : rl_Rel t P (f0, a1, a2, a3, a4, a5, a6, a7, a8, a9, a10, a11, a12, a13, a14))
    (H : ∀ u, rl_Rel t (rl_up P m (rl_cu t (P m))) u → post (rl_i (rl_rm t (rl_cu t (P m)))) u) : wpX_roomOf post (f0, a1, a2, a3, a4, a5, a6, a7, a8, a9, a10, a11, a12, a13, a14) (nI m) := by
  have i4 : vp_in (nI m) 4 := pk_in m 4 hm
  have hc : (nI m).toNatClampNeg = m := nI_clamp (by omega)
  unfold wpX_roomOf
  dsimp only
  refine rl_catchUp hm ht hk hR ?_
  rintro ⟨f0x, a1x, a2x, a3x, a4x, a5x, a6x, a7x, a8x, a9x, a10x, a11x, a12x, a13x, a14x⟩ hR'
  have hk' := rl_cu_ok ht.1 hk
  have H' : ∀ r, r = rl_i (rl_rm t (rl_cu t (P m))) → post r (f0x, a1x, a2x, a3x, a4x, a5x, a6x, a7x, a8x, a9x, a10x, a11x, a12x, a13x, a14x) := fun r hr => hr ▸ H _ hR'
  have h := hR'.2 m hm
  rw [rl_up_s] at h
  dsimp only
  rw [hc]
  generalize rl_cu t (P m) = M at *
  obtain ⟨kd, rt, bu, sp, gs, dc, tk, fl, du, l⟩ := M
  obtain ⟨h1, h2, h3, h4, h5, h6, h7, h8, h9, hh, h10, h11, h12, h13⟩ := h
  obtain ⟨k1, k2, k3, k4, k5, k6, k7, k8, k9, k10, k11⟩ := hk'
  refine ⟨i4, rl_eq kd 0 h1 rfl (by omega) (by omega) (fun c0 => ⟨i4, H' _ ?_⟩) (fun c0 => ⟨i4, rl_eq kd 1 h1 rfl (by omega) (by omega) (fun c1 => ⟨i4, i4, H' _ ?_⟩) (fun c1 => ?_)⟩)⟩
  · rw [h7]
    exact congrArg rl_i (show tk = rl_rm t (kd, rt, bu, sp, gs, dc, tk, fl, du, l) from (if_pos c0).symm)
  · rw [h3, h12, rl_sub]
    exact congrArg rl_i (show bu - rl_sum l = rl_rm t (kd, rt, bu, sp, gs, dc, tk, fl, du, l) from ((if_neg c0).trans (if_pos c1)).symm)
  · have hb := rl_bs_in k3 k4 k9.2
    refine rl_base hm ht (by omega) hR'.1 h9 ?_
    refine nm_r (show rl_i (rl_bs t du) - f0x = rl_i (rl_bs t du - t) by rw [hR'.1, rl_sub]) ⟨i4, i4, ?_⟩
    refine nm_r (show a3x m * a4x m - rl_i (rl_bs t du - t) = rl_i (bu * sp - (rl_bs t du - t)) by rw [h3, h4, rl_mul, rl_sub]) ?_
    refine rl_le 0 (bu * sp - (rl_bs t du - t)) rfl rfl (by omega) (by omega) (fun _ => ⟨i4, ?_⟩) (fun z => absurd z (by omega))
    refine rl_le sp 0 h4 rfl (by omega) (by omega) (fun z => absurd z (by omega)) (fun _ => ⟨i4, ?_, H' _ ?_⟩)
    · rw [h4]
      exact fun z => absurd ((rl_eqI (b := 0) (by omega) (by omega)).mp z) (by omega)
    · rw [h4, rl_div (by omega) (by omega) (by omega) (by omega)]
      exact congrArg rl_i (show (bu * sp - (rl_bs t du - t)) / sp = rl_rm t (kd, rt, bu, sp, gs, dc, tk, fl, du, l) from ((if_neg c0).trans (if_neg c1)).symm)
theorem rl_room {post : Int32 → St1 → Prop} {t G D : Int} {P : Nat → rl_Mt} {m : Nat} {f0 : Int32} {a1 a2 a3 a4 a5 a6 a7 a8 a9 a10 a11 a12 a13 a14 : Nat → Int32} (hm : m < 4) (ht : 0 ≤ t ∧ t ≤ 100000) (hk : rl_ok t G D (P m)) (hR : rl_Rel t P (f0, a1, a2, a3, a4, a5, a6, a7, a8, a9, a10, a11, a12, a13, a14))
    (H : ∀ u, rl_Rel t (rl_up P m (rl_cu t (P m))) u → post (rl_i (rl_cl (rl_rm t (rl_cu t (P m))))) u) : wpX_room post (f0, a1, a2, a3, a4, a5, a6, a7, a8, a9, a10, a11, a12, a13, a14) (nI m) := by
  unfold wpX_room
  dsimp only
  refine rl_bad_in hm (br_t rfl (rl_roomOf hm ht hk hR ?_))
  rintro ⟨f0x, a1x, a2x, a3x, a4x, a5x, a6x, a7x, a8x, a9x, a10x, a11x, a12x, a13x, a14x⟩ hR'
  have hk' := rl_rm_in (rl_cu_ok ht.1 hk)
  have H' := H _ hR'
  dsimp only
  generalize rl_rm t (rl_cu t (P m)) = r at *
  refine rl_le 0 r rfl rfl (by omega) (by omega) (fun _ => ?_) (fun z => absurd z (by omega))
  refine rl_le r 20 rfl rfl (by omega) (by omega) (fun z => ?_) (fun z => ?_)
  · have e : rl_cl r = r := if_pos z
    rw [e] at H'
    exact H'
  · have e : rl_cl r = 20 := if_neg (by omega)
    rw [e] at H'
    exact H'
theorem rl_room_out {post : Int32 → St1 → Prop} {x : Int32} {f0 : Int32} {a1 a2 a3 a4 a5 a6 a7 a8 a9 a10 a11 a12 a13 a14 : Nat → Int32} (hx : x < 0 ∨ ¬ x < 4) (H : post (-1) (f0, a1, a2, a3, a4, a5, a6, a7, a8, a9, a10, a11, a12, a13, a14)) : wpX_room post (f0, a1, a2, a3, a4, a5, a6, a7, a8, a9, a10, a11, a12, a13, a14) x := by
  unfold wpX_room
  dsimp only
  exact rl_bad_out hx (br_f (by decide) H)
end
section
/-! grant -/
theorem rl_grant {post : St1 → Prop} {t c G D : Int} {P : Nat → rl_Mt} {m : Nat} {f0 : Int32} {a1 a2 a3 a4 a5 a6 a7 a8 a9 a10 a11 a12 a13 a14 : Nat → Int32} (hm : m < 4) (ht : 0 ≤ t ∧ t ≤ 100000) (hk : rl_ok t G D (P m)) (hR : rl_Rel t P (f0, a1, a2, a3, a4, a5, a6, a7, a8, a9, a10, a11, a12, a13, a14))
    (H : ∀ u, rl_Rel t (rl_up P m (rl_gr t c (P m))) u → post u) : wpX_grant post (f0, a1, a2, a3, a4, a5, a6, a7, a8, a9, a10, a11, a12, a13, a14) (nI m) (rl_i c) := by
  have i4 : vp_in (nI m) 4 := pk_in m 4 hm
  have hc : (nI m).toNatClampNeg = m := nI_clamp (by omega)
  have h := hR.2 m hm
  rcases hM : P m with ⟨kd, rt, bu, sp, gs, dc, tk, fl, du, l⟩
  rw [hM] at hk h H
  obtain ⟨h1, h2, h3, h4, h5, h6, h7, h8, h9, hh, h10, h11, h12, h13⟩ := h
  obtain ⟨k1, k2, k3, k4, k5, k6, k7, k8, k9, k10, k11⟩ := hk
  unfold wpX_grant
  dsimp only
  rw [hc]
  have e5 : a5 m + rl_i c = rl_i (gs + c) := by rw [h5, rl_add]
  refine ⟨i4, i4, nm_r (congrArg (upd a5 m) e5) ⟨i4, rl_eq kd 0 h1 rfl (by omega) (by omega) (fun c0 => ⟨i4, i4, ?_⟩) (fun c0 => ⟨i4, rl_eq kd 1 h1 rfl (by omega) (by omega) (fun c1 => ⟨i4, i4, ?_⟩) (fun c1 => ?_)⟩)⟩⟩
  · have e : rl_gr t c (kd, rt, bu, sp, gs, dc, tk, fl, du, l) = (kd, rt, bu, sp, gs + c, dc, tk - c, fl, du, l) := if_pos c0
    rw [e] at H
    have e7 : a7 m - rl_i c = rl_i (tk - c) := by rw [h7, rl_sub]
    refine nm_r (congrArg (upd a7 m) e7) (H _ ⟨hR.1, fun j hj => ?_⟩)
    by_cases ej : j = m
    · rw [ej, rl_up_s]
      simp only [pk_us]
      exact ⟨h1, h2, h3, h4, rfl, h6, rfl, h8, h9, hh, h10, h11, h12, h13⟩
    · rw [rl_up_n ej]
      simp only [pk_un ej]
      exact hR.2 j hj
  · have e : rl_gr t c (kd, rt, bu, sp, gs, dc, tk, fl, du, l) = (kd, rt, bu, sp, gs + c, dc, tk, fl, du, l ++ [(t, c)]) := (if_neg c0).trans (if_pos c1)
    rw [e] at H
    have hlen := rl_len l 0 k10
    have eix : nI m * 32 + ((a10 m + a11 m) &&& 31) = nI (m * 32 + (hh + l.length) % 32) := by
      rw [h10, h11, nI_add, pk_andN (by omega) 5 (by decide), show (32 : Int32) = nI 32 from rfl, pk_mul, nI_add]
      congr 2
      omega
    have hcx : (nI (m * 32 + (hh + l.length) % 32)).toNatClampNeg = m * 32 + (hh + l.length) % 32 := nI_clamp (by omega)
    have i128 : vp_in (nI (m * 32 + (hh + l.length) % 32)) 128 := pk_in (m * 32 + (hh + l.length) % 32) 128 (by omega)
    have e11 : a11 m + 1 = nI (l ++ [(t, c)]).length := by rw [h11, nI_1, List.length_append]; rfl
    have e12 : a12 m + rl_i c = rl_i (rl_sum (l ++ [(t, c)])) := by rw [h12, rl_add, rl_sum_app]
    refine nm_r eix ?_
    rw [hcx, hR.1]
    refine ⟨i128, nm_e ⟨i128, nm_e ⟨i4, i4, nm_r (congrArg (upd a11 m) e11) ⟨i4, i4, nm_r (congrArg (upd a12 m) e12) (H _ ⟨rfl, fun j hj => ?_⟩)⟩⟩⟩⟩
    by_cases ej : j = m
    · rw [ej, rl_up_s]
      simp only [pk_us]
      exact ⟨h1, h2, h3, h4, rfl, h6, h7, h8, h9, hh, h10, rfl, rfl, rl_ring_push h13 (by omega)⟩
    · have h' := hR.2 j hj
      rw [rl_up_n ej]
      simp only [pk_un ej]
      rcases hMj : P j with ⟨q1, q2, q3, q4, q5, q6, q7, q8, q9, q10⟩
      rw [hMj] at h'
      obtain ⟨g1, g2, g3, g4, g5, g6, g7, g8, g9, gh, g10, g11, g12, g13⟩ := h'
      exact ⟨g1, g2, g3, g4, g5, g6, g7, g8, g9, gh, g10, g11, g12, rl_ring_other ej (by omega) g13⟩
  · have e : rl_gr t c (kd, rt, bu, sp, gs, dc, tk, fl, du, l) = (kd, rt, bu, sp, gs + c, dc, tk, fl, rl_bs t du + c * sp, l) := (if_neg c0).trans (if_neg c1)
    rw [e] at H
    have hb := rl_bs_in k3 k4 k9.2
    refine rl_base hm ht (by omega) hR.1 h9 ⟨i4, i4, ?_⟩
    have e9 : rl_i (rl_bs t du) + rl_i c * a4 m = rl_i (rl_bs t du + c * sp) := by rw [h4, rl_mul, rl_add]
    refine nm_r (congrArg (upd a9 m) e9) (H _ ⟨hR.1, fun j hj => ?_⟩)
    by_cases ej : j = m
    · rw [ej, rl_up_s]
      simp only [pk_us]
      exact ⟨h1, h2, h3, h4, rfl, h6, h7, h8, rfl, hh, h10, h11, h12, h13⟩
    · rw [rl_up_n ej]
      simp only [pk_un ej]
      exact hR.2 j hj
/-! one denied -/
theorem rl_dnR {t : Int} {P : Nat → rl_Mt} {m : Nat} {f0 : Int32} {a1 a2 a3 a4 a5 a6 a7 a8 a9 a10 a11 a12 a13 a14 : Nat → Int32} (hm : m < 4) (hR : rl_Rel t P (f0, a1, a2, a3, a4, a5, a6, a7, a8, a9, a10, a11, a12, a13, a14)) : rl_Rel t (rl_up P m (rl_dn (P m))) (f0, a1, a2, a3, a4, a5, upd a6 m (a6 m + 1), a7, a8, a9, a10, a11, a12, a13, a14) := by
  refine ⟨hR.1, fun j hj => ?_⟩
  by_cases ej : j = m
  · have h := hR.2 m hm
    rcases hM : P m with ⟨kd, rt, bu, sp, gs, dc, tk, fl, du, l⟩
    rw [hM] at h
    obtain ⟨h1, h2, h3, h4, h5, h6, h7, h8, h9, h10⟩ := h
    rw [ej, rl_up_s]
    simp only [pk_us]
    exact ⟨h1, h2, h3, h4, h5, (by rw [h6]; exact rl_add dc 1), h7, h8, h9, h10⟩
  · rw [rl_up_n ej]
    simp only [pk_un ej]
    exact hR.2 j hj
/-! ask -/
theorem rl_ask {post : Int32 → St1 → Prop} {t c G D : Int} {P : Nat → rl_Mt} {m : Nat} {f0 : Int32} {a1 a2 a3 a4 a5 a6 a7 a8 a9 a10 a11 a12 a13 a14 : Nat → Int32} (hm : m < 4) (ht : 0 ≤ t ∧ t ≤ 100000) (hc : 1 ≤ c ∧ c ≤ 20) (hk : rl_ok t G D (P m)) (hR : rl_Rel t P (f0, a1, a2, a3, a4, a5, a6, a7, a8, a9, a10, a11, a12, a13, a14))
    (H1 : c ≤ rl_rm t (rl_cu t (P m)) → ∀ u, rl_Rel t (rl_up P m (rl_gr t c (rl_cu t (P m)))) u → post 1 u)
    (H0 : rl_rm t (rl_cu t (P m)) < c → ∀ u, rl_Rel t (rl_up P m (rl_dn (rl_cu t (P m)))) u → post 0 u) : wpX_ask post (f0, a1, a2, a3, a4, a5, a6, a7, a8, a9, a10, a11, a12, a13, a14) (nI m) (rl_i c) := by
  have i4 : vp_in (nI m) 4 := pk_in m 4 hm
  have hcm : (nI m).toNatClampNeg = m := nI_clamp (by omega)
  unfold wpX_ask
  dsimp only
  refine rl_bad_in hm (br_t rfl (rl_bc_in hc (br_t rfl (rl_roomOf hm ht hk hR ?_))))
  rintro ⟨f0x, a1x, a2x, a3x, a4x, a5x, a6x, a7x, a8x, a9x, a10x, a11x, a12x, a13x, a14x⟩ hR'
  have hk' := rl_cu_ok ht.1 hk
  have hr := rl_rm_in hk'
  dsimp only
  refine rl_le c (rl_rm t (rl_cu t (P m))) rfl rfl (by omega) (by omega) (fun z => ?_) (fun z => ⟨i4, i4, ?_⟩)
  · refine rl_grant (G := G) (D := D) hm ht (by rw [rl_up_s]; exact hk') hR' ?_
    rintro ⟨f0y, a1y, a2y, a3y, a4y, a5y, a6y, a7y, a8y, a9y, a10y, a11y, a12y, a13y, a14y⟩ hR2
    rw [rl_up_s, rl_up_up] at hR2
    exact H1 z _ hR2
  · rw [hcm]
    have hR2 := rl_dnR hm hR'
    rw [rl_up_s, rl_up_up] at hR2
    exact nm_e (H0 z _ hR2)
theorem rl_ask_m {post : Int32 → St1 → Prop} {x y : Int32} {f0 : Int32} {a1 a2 a3 a4 a5 a6 a7 a8 a9 a10 a11 a12 a13 a14 : Nat → Int32} (hx : x < 0 ∨ ¬ x < 4) (H : post (-1) (f0, a1, a2, a3, a4, a5, a6, a7, a8, a9, a10, a11, a12, a13, a14)) : wpX_ask post (f0, a1, a2, a3, a4, a5, a6, a7, a8, a9, a10, a11, a12, a13, a14) x y := by
  unfold wpX_ask
  dsimp only
  exact rl_bad_out hx (br_f (by decide) H)
theorem rl_ask_c {post : Int32 → St1 → Prop} {m : Nat} {y : Int32} {f0 : Int32} {a1 a2 a3 a4 a5 a6 a7 a8 a9 a10 a11 a12 a13 a14 : Nat → Int32} (hm : m < 4) (hy : y < 1 ∨ ¬ y ≤ 20) (H : post (-3) (f0, a1, a2, a3, a4, a5, a6, a7, a8, a9, a10, a11, a12, a13, a14)) : wpX_ask post (f0, a1, a2, a3, a4, a5, a6, a7, a8, a9, a10, a11, a12, a13, a14) (nI m) y := by
  unfold wpX_ask
  dsimp only
  exact rl_bad_in hm (br_t rfl (rl_bc_out hy (br_f (by decide) H)))
/-! askAll -/
def rl_bit (x : Int32) (j : Nat) : Prop := ((x >>> (nI j &&& 31)) &&& 1) = 1
theorem rl_aa67 {post : Int32 → St1 → Prop} {t c G : Int} {x1 : Int32} (ht : 0 ≤ t ∧ t ≤ 100000) (hc : 1 ≤ c ∧ c ≤ 20)
    (H : ∀ P u, rl_Rel t P u → (∀ j, j < 4 → rl_ok t (G + 1) (G + 1) (P j)) → post 1 u) :
    ∀ (d k : Nat) (P : Nat → rl_Mt) (f0 : Int32) (a1 a2 a3 a4 a5 a6 a7 a8 a9 a10 a11 a12 a13 a14 : Nat → Int32), k + d = 4 → rl_Rel t P (f0, a1, a2, a3, a4, a5, a6, a7, a8, a9, a10, a11, a12, a13, a14) → (∀ j, j < k → rl_ok t (G + 1) (G + 1) (P j)) → (∀ j, k ≤ j → j < 4 → rl_ok t G (G + 1) (P j)) →
      (∀ j, k ≤ j → j < 4 → rl_bit x1 j → c ≤ rl_rm t (P j)) → wX_askAll_67 post x1 (rl_i c) 1 (d + 1) (nI k) f0 a1 a2 a3 a4 a5 a6 a7 a8 a9 a10 a11 a12 a13 a14 := by
  intro d
  induction d with
  | zero =>
    intro k P f0 a1 a2 a3 a4 a5 a6 a7 a8 a9 a10 a11 a12 a13 a14 hk hR hP hQ hr
    exact pk_le 4 k (fun _ => br_f (by decide) (H P _ hR (fun j hj => hP j (by omega)))) (fun z => absurd z (by omega))
  | succ d ih =>
    intro k P f0 a1 a2 a3 a4 a5 a6 a7 a8 a9 a10 a11 a12 a13 a14 hk hR hP hQ hr
    refine pk_le 4 k (fun z => absurd z (by omega)) (fun z => br_f (by decide) (br_c (fun b => ?_) (fun b => ?_)))
    · refine rl_grant (G := G) (D := G + 1) (by omega) ht (hQ k (by omega) (by omega)) hR ?_
      rintro ⟨f0x, a1x, a2x, a3x, a4x, a5x, a6x, a7x, a8x, a9x, a10x, a11x, a12x, a13x, a14x⟩ hR'
      refine nm_r (nI_1 k) (ih (k + 1) _ f0x a1x a2x a3x a4x a5x a6x a7x a8x a9x a10x a11x a12x a13x a14x (by omega) hR' (fun j hj => ?_) (fun j hj hj4 => ?_) (fun j hj hj4 => ?_))
      · by_cases e : j = k
        · rw [e, rl_up_s]
          exact rl_gr_ok ht.1 hc (hQ k (by omega) (by omega)) (hr k (by omega) (by omega) b)
        · rw [rl_up_n e]
          exact hP j (by omega)
      · rw [rl_up_n (by omega)]
        exact hQ j (by omega) hj4
      · rw [rl_up_n (by omega)]
        exact hr j (by omega) hj4
    · refine nm_r (nI_1 k) (ih (k + 1) P f0 a1 a2 a3 a4 a5 a6 a7 a8 a9 a10 a11 a12 a13 a14 (by omega) hR (fun j hj => ?_) (fun j hj hj4 => hQ j (by omega) hj4) (fun j hj hj4 => hr j (by omega) hj4))
      by_cases e : j = k
      · rw [e]
        exact rl_ok_mono (Int.le_refl t) (by omega) (Int.le_refl _) (hQ k (by omega) (by omega))
      · exact hP j (by omega)
theorem rl_aa15 {post : Int32 → St1 → Prop} {t c G : Int} {x1 : Int32} (ht : 0 ≤ t ∧ t ≤ 100000) (hc : 1 ≤ c ∧ c ≤ 20)
    (H : ∀ r P u, (r = 0 ∨ r = 1) → rl_Rel t P u → (∀ j, j < 4 → rl_ok t (G + 1) (G + 1) (P j)) → post r u) :
    ∀ (d k : Nat) (P : Nat → rl_Mt) (x3 : Int32) (f0 : Int32) (a1 a2 a3 a4 a5 a6 a7 a8 a9 a10 a11 a12 a13 a14 : Nat → Int32), k + d = 4 → rl_Rel t P (f0, a1, a2, a3, a4, a5, a6, a7, a8, a9, a10, a11, a12, a13, a14) → (∀ j, j < k → rl_ok t G (G + 1) (P j)) → (∀ j, k ≤ j → j < 4 → rl_ok t G G (P j)) →
      (x3 = 0 ∨ (x3 = 1 ∧ ∀ j, j < k → rl_bit x1 j → c ≤ rl_rm t (P j))) → wX_askAll_15 post x1 (rl_i c) (d + 1) x3 (nI k) f0 a1 a2 a3 a4 a5 a6 a7 a8 a9 a10 a11 a12 a13 a14 := by
  intro d
  induction d with
  | zero =>
    intro k P x3 f0 a1 a2 a3 a4 a5 a6 a7 a8 a9 a10 a11 a12 a13 a14 hk hR hP hQ hr
    refine pk_le 4 k (fun _ => ?_) (fun z => absurd z (by omega))
    rcases hr with hr | ⟨hr, hr2⟩
    · refine ⟨0 + 1, ?_⟩
      rw [hr]
      exact pk_le 4 0 (fun z => absurd z (by omega)) (fun _ => br_t rfl (br_t rfl (H 0 P _ (Or.inl rfl) hR (fun j hj => rl_ok_mono (Int.le_refl t) (by omega) (Int.le_refl _) (hP j (by omega))))))
    · refine ⟨4 + 1, ?_⟩
      rw [hr]
      exact rl_aa67 ht hc (fun P u => H 1 P u (Or.inr rfl)) 4 0 P f0 a1 a2 a3 a4 a5 a6 a7 a8 a9 a10 a11 a12 a13 a14 (by omega) hR (fun j hj => absurd hj (by omega)) (fun j _ hj => hP j (by omega)) (fun j _ hj => hr2 j (by omega))
  | succ d ih =>
    intro k P x3 f0 a1 a2 a3 a4 a5 a6 a7 a8 a9 a10 a11 a12 a13 a14 hk hR hP hQ hr
    have hk4 : k < 4 := by omega
    have i4 : vp_in (nI k) 4 := pk_in k 4 hk4
    have hcm : (nI k).toNatClampNeg = k := nI_clamp (by omega)
    refine pk_le 4 k (fun z => absurd z (by omega)) (fun z => br_c (fun b => ?_) (fun b => ?_))
    · refine rl_roomOf hk4 ht (hQ k (by omega) hk4) hR ?_
      rintro ⟨f0x, a1x, a2x, a3x, a4x, a5x, a6x, a7x, a8x, a9x, a10x, a11x, a12x, a13x, a14x⟩ hR'
      have hk' := rl_cu_ok ht.1 (hQ k (by omega) hk4)
      have hrm := rl_rm_in hk'
      dsimp only
      refine rl_le c (rl_rm t (rl_cu t (P k))) rfl rfl (by omega) (by omega) (fun y => ?_) (fun y => ⟨i4, i4, ?_⟩)
      · refine nm_r (nI_1 k) (ih (k + 1) _ x3 f0x a1x a2x a3x a4x a5x a6x a7x a8x a9x a10x a11x a12x a13x a14x (by omega) hR' (fun j hj => ?_) (fun j hj hj4 => ?_) ?_)
        · by_cases e : j = k
          · rw [e, rl_up_s]
            exact rl_ok_mono (Int.le_refl t) (Int.le_refl _) (by omega) hk'
          · rw [rl_up_n e]
            exact hP j (by omega)
        · rw [rl_up_n (by omega)]
          exact hQ j (by omega) hj4
        · rcases hr with hr | ⟨hr, hr2⟩
          · exact Or.inl hr
          · refine Or.inr ⟨hr, fun j hj hb => ?_⟩
            by_cases e : j = k
            · rw [e, rl_up_s]
              exact y
            · rw [rl_up_n e]
              exact hr2 j (by omega) hb
      · rw [hcm]
        have hR2 := rl_dnR hk4 hR'
        rw [rl_up_s, rl_up_up] at hR2
        refine nm_e (nm_r (nI_1 k) (ih (k + 1) _ 0 _ _ _ _ _ _ _ _ _ _ _ _ _ _ _ (by omega) hR2 (fun j hj => ?_) (fun j hj hj4 => ?_) (Or.inl rfl)))
        · by_cases e : j = k
          · rw [e, rl_up_s]
            exact rl_dn_ok hk'
          · rw [rl_up_n e]
            exact hP j (by omega)
        · rw [rl_up_n (by omega)]
          exact hQ j (by omega) hj4
    · refine nm_r (nI_1 k) (ih (k + 1) P x3 f0 a1 a2 a3 a4 a5 a6 a7 a8 a9 a10 a11 a12 a13 a14 (by omega) hR (fun j hj => ?_) (fun j hj hj4 => hQ j (by omega) hj4) ?_)
      · by_cases e : j = k
        · rw [e]
          exact rl_ok_mono (Int.le_refl t) (Int.le_refl _) (by omega) (hQ k (by omega) hk4)
        · exact hP j (by omega)
      · rcases hr with hr | ⟨hr, hr2⟩
        · exact Or.inl hr
        · refine Or.inr ⟨hr, fun j hj hb => ?_⟩
          by_cases e : j = k
          · rw [e] at hb
            exact absurd hb b
          · exact hr2 j (by omega) hb
theorem rl_askAll {post : Int32 → St1 → Prop} {t c G : Int} {P : Nat → rl_Mt} {x : Int32} {f0 : Int32} {a1 a2 a3 a4 a5 a6 a7 a8 a9 a10 a11 a12 a13 a14 : Nat → Int32} (ht : 0 ≤ t ∧ t ≤ 100000) (hc : 1 ≤ c ∧ c ≤ 20) (hk : ∀ j, j < 4 → rl_ok t G G (P j)) (hR : rl_Rel t P (f0, a1, a2, a3, a4, a5, a6, a7, a8, a9, a10, a11, a12, a13, a14))
    (H : ∀ r P u, (r = 0 ∨ r = 1) → rl_Rel t P u → (∀ j, j < 4 → rl_ok t (G + 1) (G + 1) (P j)) → post r u) : wpX_askAll post (f0, a1, a2, a3, a4, a5, a6, a7, a8, a9, a10, a11, a12, a13, a14) x (rl_i c) := by
  unfold wpX_askAll
  dsimp only
  refine rl_bc_in hc (br_t rfl ⟨4 + 1, ?_⟩)
  exact rl_aa15 ht hc H 4 0 P 1 f0 a1 a2 a3 a4 a5 a6 a7 a8 a9 a10 a11 a12 a13 a14 (by omega) hR (fun j hj => absurd hj (by omega)) (fun j _ hj => hk j hj) (Or.inr ⟨rfl, fun j hj => absurd hj (by omega)⟩)
theorem rl_askAll_c {post : Int32 → St1 → Prop} {x y : Int32} {f0 : Int32} {a1 a2 a3 a4 a5 a6 a7 a8 a9 a10 a11 a12 a13 a14 : Nat → Int32} (hy : y < 1 ∨ ¬ y ≤ 20) (H : post (-3) (f0, a1, a2, a3, a4, a5, a6, a7, a8, a9, a10, a11, a12, a13, a14)) : wpX_askAll post (f0, a1, a2, a3, a4, a5, a6, a7, a8, a9, a10, a11, a12, a13, a14) x y := by
  unfold wpX_askAll
  dsimp only
  exact rl_bc_out hy (br_f (by decide) H)
/-! pass -/
theorem rl_pass_b {post : Int32 → St1 → Prop} {x : Int32} {f0 : Int32} {a1 a2 a3 a4 a5 a6 a7 a8 a9 a10 a11 a12 a13 a14 : Nat → Int32} (hx : x < 0 ∨ ¬ x ≤ 1000) (H : post (-3) (f0, a1, a2, a3, a4, a5, a6, a7, a8, a9, a10, a11, a12, a13, a14)) : wpX_pass post (f0, a1, a2, a3, a4, a5, a6, a7, a8, a9, a10, a11, a12, a13, a14) x := by
  unfold wpX_pass
  dsimp only
  exact br_c (fun _ => H) (fun z => br_f (hx.resolve_left z) H)
theorem rl_pass {post : Int32 → St1 → Prop} {t a : Int} {P : Nat → rl_Mt} {f0 : Int32} {a1 a2 a3 a4 a5 a6 a7 a8 a9 a10 a11 a12 a13 a14 : Nat → Int32} (ht : 0 ≤ t ∧ t ≤ 100000) (ha : 0 ≤ a ∧ a ≤ 1000) (hR : rl_Rel t P (f0, a1, a2, a3, a4, a5, a6, a7, a8, a9, a10, a11, a12, a13, a14))
    (H1 : t + a ≤ 100000 → ∀ u, rl_Rel (t + a) P u → post (rl_i (t + a)) u) (H0 : 100000 < t + a → post (-4) (f0, a1, a2, a3, a4, a5, a6, a7, a8, a9, a10, a11, a12, a13, a14)) : wpX_pass post (f0, a1, a2, a3, a4, a5, a6, a7, a8, a9, a10, a11, a12, a13, a14) (rl_i a) := by
  unfold wpX_pass
  dsimp only
  have e : f0 + rl_i a = rl_i (t + a) := by rw [hR.1, rl_add]
  rw [e]
  refine rl_lt a 0 rfl rfl (by omega) (by omega) (fun z => absurd z (by omega)) (fun _ => ?_)
  refine rl_le a 1000 rfl rfl (by omega) (by omega) (fun _ => ?_) (fun z => absurd z (by omega))
  refine rl_le (t + a) 100000 rfl rfl (by omega) (by omega) (fun z => nm_e (H1 z _ ⟨rfl, hR.2⟩)) H0
/-! set -/
def rl_odd (r b s : Nat) : Prop := r < 1 ∨ 5 < r ∨ b < 1 ∨ 30 < b ∨ s < 1 ∨ 10 < s
theorem rl_odd_c {A B : Prop} {r b s : Nat} {x4 x5 x6 : Int32} (h4 : x4 = nI r) (h5 : x5 = nI b) (h6 : x6 = nI s) (hr : r < 8) (hb : b < 32) (hs : s < 16) (HA : rl_odd r b s → A) (HB : ¬ rl_odd r b s → B) :
    (x4 < 1 → A) ∧ (¬ x4 < 1 → ((5 < x4 → A) ∧ (¬ 5 < x4 → ((x5 < 1 → A) ∧ (¬ x5 < 1 → ((30 < x5 → A) ∧ (¬ 30 < x5 → ((x6 < 1 → A) ∧ (¬ x6 < 1 → ((x6 ≤ 10 → B) ∧ (¬ x6 ≤ 10 → A))))))))))) := by
  unfold rl_odd at HA HB
  refine pk_lt r 1 (fun z => HA (by omega)) (fun z1 => ?_) h4
  refine pk_lt 5 r (fun z => HA (by omega)) (fun z2 => ?_) rfl h4
  refine pk_lt b 1 (fun z => HA (by omega)) (fun z3 => ?_) h5
  refine pk_lt 30 b (fun z => HA (by omega)) (fun z4 => ?_) rfl h5
  refine pk_lt s 1 (fun z => HA (by omega)) (fun z5 => ?_) h6
  exact pk_le s 10 (fun z => HB (by omega)) (fun z => HA (by omega)) h6
theorem rl_set {post : Int32 → St1 → Prop} {t : Int} {P : Nat → rl_Mt} {m r b s : Nat} {y z : Int32} {f0 : Int32} {a1 a2 a3 a4 a5 a6 a7 a8 a9 a10 a11 a12 a13 a14 : Nat → Int32} (hm : m < 4) (h4 : z &&& 7 = nI r) (h5 : (z >>> ((3 : Int32) &&& 31)) &&& 31 = nI b) (h6 : (z >>> ((8 : Int32) &&& 31)) &&& 15 = nI s) (hr : r < 8) (hb : b < 32) (hs : s < 16) (hR : rl_Rel t P (f0, a1, a2, a3, a4, a5, a6, a7, a8, a9, a10, a11, a12, a13, a14))
    (H2 : (y < 0 ∨ ¬ y ≤ 2) → post (-2) (f0, a1, a2, a3, a4, a5, a6, a7, a8, a9, a10, a11, a12, a13, a14)) (H3 : ¬ (y < 0 ∨ ¬ y ≤ 2) → rl_odd r b s → post (-3) (f0, a1, a2, a3, a4, a5, a6, a7, a8, a9, a10, a11, a12, a13, a14))
    (H4 : ¬ rl_odd r b s → ∀ kd : Int, 0 ≤ kd → kd ≤ 2 → y = rl_i kd → ∀ u, rl_Rel t (rl_up P m (kd, (r : Int), (b : Int), (s : Int), 0, 0, (b : Int), t, -1000000, [])) u → post 0 u) : wpX_set post (f0, a1, a2, a3, a4, a5, a6, a7, a8, a9, a10, a11, a12, a13, a14) (nI m) y z := by
  unfold wpX_set
  dsimp only
  refine rl_bad_in hm (br_t rfl (br_c (fun g => H2 (Or.inl g)) (fun g => br_c (fun g2 => ?_) (fun g2 => H2 (Or.inr g2)))))
  refine nm_r h4 (nm_r h5 (nm_r h6 (rl_odd_c rfl rfl rfl hr hb hs (fun o => H3 (fun q => q.elim g (fun w => w g2)) o) (fun o => ?_))))
  obtain ⟨kd, hk, rfl⟩ := rl_ex y
  have k0 : ¬ kd < 0 := fun q => g ((rl_ltI (b := 0) hk (by omega)).mpr q)
  have k2 : kd ≤ 2 := (rl_leI (b := 2) hk (by omega)).mp g2
  rw [rl_nI r, rl_nI b, rl_nI s]
  refine rl_start hm hR ?_
  rintro ⟨f0x, a1x, a2x, a3x, a4x, a5x, a6x, a7x, a8x, a9x, a10x, a11x, a12x, a13x, a14x⟩ hR'
  exact H4 o kd (by omega) k2 rfl _ hR'
theorem rl_set_m {post : Int32 → St1 → Prop} {x y z : Int32} {f0 : Int32} {a1 a2 a3 a4 a5 a6 a7 a8 a9 a10 a11 a12 a13 a14 : Nat → Int32} (hx : x < 0 ∨ ¬ x < 4) (H : post (-1) (f0, a1, a2, a3, a4, a5, a6, a7, a8, a9, a10, a11, a12, a13, a14)) : wpX_set post (f0, a1, a2, a3, a4, a5, a6, a7, a8, a9, a10, a11, a12, a13, a14) x y z := by
  unfold wpX_set
  dsimp only
  exact rl_bad_out hx (br_f (by decide) H)
/-! waitFor -/
theorem rl_lwL {post : Int32 → Prop} {t sp : Int} {m : Nat} {hh N : Nat} {f0 : Int32} {a1 a2 a3 a4 a5 a6 a7 a8 a9 a10 a11 a12 a13 a14 : Nat → Int32} (hm : m < 4) (ht : 0 ≤ t ∧ t ≤ 100000) (hsp : 1 ≤ sp ∧ sp ≤ 10) (h0 : f0 = rl_i t) (h4 : a4 m = rl_i sp) (h10 : a10 m = nI (hh % 32)) (h11 : a11 m = nI N) (hN : N ≤ 31) :
    ∀ (l : List (Int × Int)) (k : Nat) (ov w : Int), k + l.length = N → rl_ring a13 a14 (m * 32) (hh + k) l → rl_lok t 0 l → rl_sum l ≤ 30 → -100 ≤ ov → ov ≤ 100 → post (rl_i (rl_lw t sp ov w l)) →
      wX_logWait_22 post (nI m) f0 a1 a2 a3 a4 a5 a6 a7 a8 a9 a10 a11 a12 a13 a14 (l.length + 1) (rl_i ov) (rl_i w) (nI k) := by
  have i4 : vp_in (nI m) 4 := pk_in m 4 hm
  have hc : (nI m).toNatClampNeg = m := nI_clamp (by omega)
  intro l
  induction l with
  | nil =>
    intro k ov w hk hr hl hs ho1 ho2 H
    rw [List.length_nil] at hk
    refine ⟨i4, ?_⟩
    rw [hc, h11]
    exact pk_le N k (fun _ => H) (fun z => absurd z (by omega))
  | cons p l ih =>
    intro k ov w hk hr hl hs ho1 ho2 H
    rw [List.length_cons] at hk
    have hl' := rl_len l _ hl.2.2.2
    have hp := hl.2.2.1
    have hs' : rl_sum (p :: l) = p.2 + rl_sum l := rfl
    have hlen : (p :: l).length = l.length + 1 := List.length_cons
    rw [hlen]
    refine ⟨i4, ?_⟩
    rw [hc, h11]
    refine pk_le N k (fun z => absurd z (by omega)) (fun _ => ?_)
    refine rl_le ov 0 rfl rfl (by omega) (by omega) (fun z => ?_) (fun z => ⟨i4, ?_⟩)
    · have e : rl_lw t sp ov w (p :: l) = w := if_pos z
      rw [e] at H
      exact H
    · have e : rl_lw t sp ov w (p :: l) = rl_lw t sp (ov - p.2) (p.1 + sp - t) l := if_neg (by omega)
      rw [e] at H
      have eix : nI m * 32 + ((a10 m + nI k) &&& 31) = nI (m * 32 + (hh + k) % 32) := by
        rw [h10, nI_add, pk_andN (by omega) 5 (by decide), show (32 : Int32) = nI 32 from rfl, pk_mul, nI_add]
        congr 2
        omega
      have hcx : (nI (m * 32 + (hh + k) % 32)).toNatClampNeg = m * 32 + (hh + k) % 32 := nI_clamp (by omega)
      have i128 : vp_in (nI (m * 32 + (hh + k) % 32)) 128 := pk_in (m * 32 + (hh + k) % 32) 128 (by omega)
      refine nm_r eix ?_
      rw [hcx, hr.1, hr.2.1, h4, h0]
      have hn := ih (k + 1) (ov - p.2) (p.1 + sp - t) (by omega) hr.2.2 (rl_lok_weak hl.1 hl.2.2.2) (by omega) (by omega) (by omega) H
      rw [h0] at hn
      exact ⟨i128, nm_r (rl_sub ov p.2) ⟨i128, i4, nm_r (show rl_i p.1 + rl_i sp - rl_i t = rl_i (p.1 + sp - t) by rw [rl_add, rl_sub]) (nm_r (nI_1 k) hn)⟩⟩
theorem rl_logWait {post : Int32 → Prop} {t c G D : Int} {P : Nat → rl_Mt} {m : Nat} {kd rt bu sp gs dc tk fl du : Int} {l : List (Int × Int)} {f0 : Int32} {a1 a2 a3 a4 a5 a6 a7 a8 a9 a10 a11 a12 a13 a14 : Nat → Int32} (hm : m < 4) (ht : 0 ≤ t ∧ t ≤ 100000) (hc : 1 ≤ c ∧ c ≤ 20) (hM : P m = (kd, rt, bu, sp, gs, dc, tk, fl, du, l)) (hk : rl_ok t G D (P m)) (hR : rl_Rel t P (f0, a1, a2, a3, a4, a5, a6, a7, a8, a9, a10, a11, a12, a13, a14))
    (H : post (rl_i (rl_lw t sp (rl_sum l + c - bu) 0 l))) : wpX_logWait post (f0, a1, a2, a3, a4, a5, a6, a7, a8, a9, a10, a11, a12, a13, a14) (nI m) (rl_i c) := by
  have i4 : vp_in (nI m) 4 := pk_in m 4 hm
  have hcm : (nI m).toNatClampNeg = m := nI_clamp (by omega)
  have h := hR.2 m hm
  rw [hM] at hk h
  obtain ⟨h1, h2, h3, h4, h5, h6, h7, h8, h9, hh, h10, h11, h12, h13⟩ := h
  obtain ⟨k1, k2, k3, k4, k5, k6, k7, k8, k9, k10, k11⟩ := hk
  have hlen := rl_len l 0 k10
  unfold wpX_logWait
  dsimp only
  rw [hcm]
  refine ⟨i4, i4, nm_r (show a12 m + rl_i c - a3 m = rl_i (rl_sum l + c - bu) by rw [h12, h3, rl_add, rl_sub]) ⟨l.length + 1, ?_⟩⟩
  exact rl_lwL hm ht k4 hR.1 h4 h10 h11 (by omega) l 0 _ 0 (by omega) h13 k10 (by omega) (by omega) (by omega) H
theorem rl_wait {post : Int32 → St1 → Prop} {t c G D : Int} {P : Nat → rl_Mt} {m : Nat} {f0 : Int32} {a1 a2 a3 a4 a5 a6 a7 a8 a9 a10 a11 a12 a13 a14 : Nat → Int32} (hm : m < 4) (ht : 0 ≤ t ∧ t ≤ 100000) (hc : 1 ≤ c ∧ c ≤ 20) (hcu : rl_cu t (P m) = P m) (hk : rl_ok t G D (P m)) (hR : rl_Rel t P (f0, a1, a2, a3, a4, a5, a6, a7, a8, a9, a10, a11, a12, a13, a14))
    (H : ∀ u, rl_Rel t P u → post (rl_i (rl_wt t c (P m))) u) : wpX_waitFor post (f0, a1, a2, a3, a4, a5, a6, a7, a8, a9, a10, a11, a12, a13, a14) (nI m) (rl_i c) := by
  have i4 : vp_in (nI m) 4 := pk_in m 4 hm
  have hcm : (nI m).toNatClampNeg = m := nI_clamp (by omega)
  have hrm := rl_rm_in hk
  have h := hR.2 m hm
  rcases hM : P m with ⟨kd, rt, bu, sp, gs, dc, tk, fl, du, l⟩
  have hk2 := hk
  rw [hM] at hk2 h
  have b3 : 1 ≤ bu ∧ bu ≤ 30 := hk2.2.2.1
  have ew : rl_wt t c (P m) = if bu < c then -4 else if c ≤ rl_rm t (P m) then 0 else if kd = 1 then rl_lw t sp (rl_sum l + c - bu) 0 l else if kd = 0 then (c - tk + rt - 1) / rt else du + (c - bu) * sp - t := by rw [hM]; rfl
  unfold wpX_waitFor
  dsimp only
  rw [hcm]
  refine rl_bad_in hm (br_t rfl (rl_bc_in hc (br_t rfl ⟨i4, ?_⟩)))
  refine rl_le c bu rfl h.2.2.1 (by omega) (by omega) (fun z => ?_) (fun z => ?_)
  rotate_left 1
  · have e : rl_wt t c (P m) = -4 := ew.trans (if_pos z)
    rw [e] at H
    exact H _ hR
  rw [if_neg (show ¬ bu < c by omega)] at ew
  refine rl_roomOf hm ht hk hR ?_
  rintro ⟨f0x, a1x, a2x, a3x, a4x, a5x, a6x, a7x, a8x, a9x, a10x, a11x, a12x, a13x, a14x⟩ hR'
  rw [hcu, rl_up_id rfl] at hR'
  rw [hcu]
  have H' := H _ hR'
  have h := hR'.2 m hm
  rw [hM] at h
  obtain ⟨h1, h2, h3, h4, h5, h6, h7, h8, h9, h10⟩ := h
  obtain ⟨k1, k2, k3, k4, k5, k6, k7, k8, k9, k10, k11⟩ := hk2
  dsimp only
  refine rl_lt (rl_rm t (P m)) c rfl rfl (by omega) (by omega) (fun z2 => ⟨i4, ?_⟩) (fun z2 => ?_)
  rotate_left 1
  · have e : rl_wt t c (P m) = 0 := ew.trans (if_pos z2)
    rw [e] at H'
    exact H'
  rw [if_neg (show ¬ c ≤ rl_rm t (P m) by omega)] at ew
  refine rl_eq kd 1 h1 rfl (by omega) (by omega) (fun c1 => ?_) (fun c1 => ⟨i4, rl_eq kd 0 h1 rfl (by omega) (by omega) (fun c0 => ⟨i4, ?_⟩) (fun c0 => ⟨i4, i4, i4, ?_⟩)⟩)
  · rw [ew, if_pos c1] at H'
    exact rl_logWait hm ht hc hM hk hR' H'
  · rw [ew, if_neg c1, if_pos c0] at H'
    have er : rl_rm t (P m) = tk := by rw [hM]; exact if_pos c0
    refine rl_le rt 0 h2 rfl (by omega) (by omega) (fun z3 => absurd z3 (by omega)) (fun z3 => ⟨i4, ?_⟩)
    unfold wX_waitFor_90
    rw [hcm, h2, h7, rl_sub, rl_add, show (1 : Int32) = rl_i 1 from rfl, rl_sub, rl_div (by omega) (by omega) (by omega) (by omega)]
    exact ⟨i4, fun q => absurd ((rl_eqI (b := 0) (by omega) (by omega)).mp q) (by omega), H'⟩
  · rw [ew, if_neg c1, if_neg c0] at H'
    rw [h9, h3, h4, hR'.1, rl_sub, rl_mul, rl_add, rl_sub]
    rw [hR'.1] at H'
    exact H'
theorem rl_wait_c {post : Int32 → St1 → Prop} {m : Nat} {y : Int32} {f0 : Int32} {a1 a2 a3 a4 a5 a6 a7 a8 a9 a10 a11 a12 a13 a14 : Nat → Int32} (hm : m < 4) (hy : y < 1 ∨ ¬ y ≤ 20) (H : post (-3) (f0, a1, a2, a3, a4, a5, a6, a7, a8, a9, a10, a11, a12, a13, a14)) : wpX_waitFor post (f0, a1, a2, a3, a4, a5, a6, a7, a8, a9, a10, a11, a12, a13, a14) (nI m) y := by
  unfold wpX_waitFor
  dsimp only
  exact rl_bad_in hm (br_t rfl (rl_bc_out hy (br_f (by decide) H)))
theorem rl_wait_m {post : Int32 → St1 → Prop} {x y : Int32} {f0 : Int32} {a1 a2 a3 a4 a5 a6 a7 a8 a9 a10 a11 a12 a13 a14 : Nat → Int32} (hx : x < 0 ∨ ¬ x < 4) (H : post (-1) (f0, a1, a2, a3, a4, a5, a6, a7, a8, a9, a10, a11, a12, a13, a14)) : wpX_waitFor post (f0, a1, a2, a3, a4, a5, a6, a7, a8, a9, a10, a11, a12, a13, a14) x y := by
  unfold wpX_waitFor
  dsimp only
  exact rl_bad_out hx (br_f (by decide) H)
end
section
/-! the law's inner loops -/
theorem rl_okup {t G D : Int} {P : Nat → rl_Mt} {m : Nat} {M : rl_Mt} (h : ∀ j, j < 4 → rl_ok t G D (P j)) (hM : rl_ok t G D M) : ∀ j, j < 4 → rl_ok t G D (rl_up P m M j) := by
  intro j hj
  by_cases e : j = m
  · rw [e, rl_up_s]
    exact hM
  · rw [rl_up_n e]
    exact h j hj
theorem rl_670 {post : Int32 → Prop} {L : Nat} {xs : Nat → Int32} {J12 : Int32 → Int32 → Int32 → (Nat → Int32) → (Nat → Int32) → (Nat → Int32) → (Nat → Int32) → (Nat → Int32) → (Nat → Int32) → (Nat → Int32) → (Nat → Int32) → (Nat → Int32) → (Nat → Int32) → (Nat → Int32) → (Nat → Int32) → (Nat → Int32) → (Nat → Int32) → Prop} {kc ks : Nat} {J596 : Int32 → Int32 → (Nat → Int32) → (Nat → Int32) → (Nat → Int32) → (Nat → Int32) → (Nat → Int32) → (Nat → Int32) → (Nat → Int32) → (Nat → Int32) → (Nat → Int32) → (Nat → Int32) → (Nat → Int32) → (Nat → Int32) → (Nat → Int32) → (Nat → Int32) → Prop} {J616 : Int32 → Int32 → Int32 → (Nat → Int32) → (Nat → Int32) → (Nat → Int32) → (Nat → Int32) → (Nat → Int32) → (Nat → Int32) → (Nat → Int32) → (Nat → Int32) → (Nat → Int32) → (Nat → Int32) → (Nat → Int32) → (Nat → Int32) → (Nat → Int32) → (Nat → Int32) → Prop} {x2 x3 x14 x15 : Int32} {last w : Int} {k : Nat} {f0 : Int32} {a1 a2 a3 a4 a5 a6 a7 a8 a9 a10 a11 a12 a13 a14 : Nat → Int32}
    (hl : -10 ≤ last ∧ last ≤ 300) (hw : -10 ≤ w ∧ w ≤ 300) (h1 : last = -4 → w = -4) (h2 : w < 0 ∨ last ≤ w) (H : J616 (rl_i w) (nI (k + 1)) f0 a1 a2 a3 a4 a5 a6 a7 a8 a9 a10 a11 a12 a13 a14) :
    wL_law_670 post L xs J12 J596 J616 x2 x3 x14 x15 (rl_i last) (nI k) (rl_i w) kc ks f0 a1 a2 a3 a4 a5 a6 a7 a8 a9 a10 a11 a12 a13 a14 := by
  unfold wL_law_670
  refine rl_lt 300 w rfl rfl (by omega) (by omega) (fun z => absurd z (by omega)) (fun _ => ?_)
  refine rl_eq last (-4) rfl rfl (by omega) (by omega) (fun z => br_t (by rw [h1 z, z]) (nm_r (nI_1 k) H)) (fun z => ?_)
  refine rl_lt w 0 rfl rfl (by omega) (by omega) (fun _ => nm_r (nI_1 k) H) (fun z2 => ?_)
  exact rl_le last w rfl rfl (by omega) (by omega) (fun _ => nm_r (nI_1 k) H) (fun z3 => absurd z3 (by omega))
theorem rl_655 {post : Int32 → Prop} {L : Nat} {xs : Nat → Int32} {J12 : Int32 → Int32 → Int32 → (Nat → Int32) → (Nat → Int32) → (Nat → Int32) → (Nat → Int32) → (Nat → Int32) → (Nat → Int32) → (Nat → Int32) → (Nat → Int32) → (Nat → Int32) → (Nat → Int32) → (Nat → Int32) → (Nat → Int32) → (Nat → Int32) → (Nat → Int32) → Prop} {kc ks : Nat} {J596 : Int32 → Int32 → (Nat → Int32) → (Nat → Int32) → (Nat → Int32) → (Nat → Int32) → (Nat → Int32) → (Nat → Int32) → (Nat → Int32) → (Nat → Int32) → (Nat → Int32) → (Nat → Int32) → (Nat → Int32) → (Nat → Int32) → (Nat → Int32) → (Nat → Int32) → Prop} {J616 : Int32 → Int32 → Int32 → (Nat → Int32) → (Nat → Int32) → (Nat → Int32) → (Nat → Int32) → (Nat → Int32) → (Nat → Int32) → (Nat → Int32) → (Nat → Int32) → (Nat → Int32) → (Nat → Int32) → (Nat → Int32) → (Nat → Int32) → (Nat → Int32) → (Nat → Int32) → Prop} {x2 x3 x14 x15 z : Int32} {last w : Int} {k : Nat} {f0 : Int32} {a1 a2 a3 a4 a5 a6 a7 a8 a9 a10 a11 a12 a13 a14 : Nat → Int32}
    (hl : -10 ≤ last ∧ last ≤ 300) (hw : -10 ≤ w ∧ w ≤ 300) (hw4 : 0 ≤ w ∨ w = -4) (h1 : last = -4 → w = -4) (h2 : w < 0 ∨ last ≤ w) (H : J616 (rl_i w) (nI (k + 1)) f0 a1 a2 a3 a4 a5 a6 a7 a8 a9 a10 a11 a12 a13 a14) :
    wL_law_655 post L xs J12 J596 J616 x2 x3 x14 x15 (rl_i last) (nI k) (rl_i w) z z kc ks f0 a1 a2 a3 a4 a5 a6 a7 a8 a9 a10 a11 a12 a13 a14 := by
  unfold wL_law_655
  refine br_t rfl (rl_le 0 w rfl rfl (by omega) (by omega) (fun _ => rl_670 hl hw h1 h2 H) (fun z1 => ?_))
  exact rl_eq w (-4) rfl rfl (by omega) (by omega) (fun _ => rl_670 hl hw h1 h2 H) (fun z2 => absurd z2 (by omega))
theorem rl_643 {post : Int32 → Prop} {L : Nat} {xs : Nat → Int32} {J12 : Int32 → Int32 → Int32 → (Nat → Int32) → (Nat → Int32) → (Nat → Int32) → (Nat → Int32) → (Nat → Int32) → (Nat → Int32) → (Nat → Int32) → (Nat → Int32) → (Nat → Int32) → (Nat → Int32) → (Nat → Int32) → (Nat → Int32) → (Nat → Int32) → (Nat → Int32) → Prop} {kc ks : Nat} {J596 : Int32 → Int32 → (Nat → Int32) → (Nat → Int32) → (Nat → Int32) → (Nat → Int32) → (Nat → Int32) → (Nat → Int32) → (Nat → Int32) → (Nat → Int32) → (Nat → Int32) → (Nat → Int32) → (Nat → Int32) → (Nat → Int32) → (Nat → Int32) → (Nat → Int32) → Prop} {J616 : Int32 → Int32 → Int32 → (Nat → Int32) → (Nat → Int32) → (Nat → Int32) → (Nat → Int32) → (Nat → Int32) → (Nat → Int32) → (Nat → Int32) → (Nat → Int32) → (Nat → Int32) → (Nat → Int32) → (Nat → Int32) → (Nat → Int32) → (Nat → Int32) → (Nat → Int32) → Prop} {x2 x3 x14 : Int32} {most last w : Int} {k : Nat} {f0 : Int32} {a1 a2 a3 a4 a5 a6 a7 a8 a9 a10 a11 a12 a13 a14 : Nat → Int32}
    (hk : k ≤ 20) (hm : 0 ≤ most ∧ most ≤ 20) (h0 : w = 0 ↔ (k : Int) ≤ most)
    (hl : -10 ≤ last ∧ last ≤ 300) (hw : -10 ≤ w ∧ w ≤ 300) (hw4 : 0 ≤ w ∨ w = -4) (h1 : last = -4 → w = -4) (h2 : w < 0 ∨ last ≤ w) (H : J616 (rl_i w) (nI (k + 1)) f0 a1 a2 a3 a4 a5 a6 a7 a8 a9 a10 a11 a12 a13 a14) :
    (rl_i w = 0 → wL_law_643 post L xs J12 J596 J616 x2 x3 x14 (rl_i most) (rl_i last) (nI k) (rl_i w) 1 kc ks f0 a1 a2 a3 a4 a5 a6 a7 a8 a9 a10 a11 a12 a13 a14) ∧ (¬ rl_i w = 0 → wL_law_643 post L xs J12 J596 J616 x2 x3 x14 (rl_i most) (rl_i last) (nI k) (rl_i w) 0 kc ks f0 a1 a2 a3 a4 a5 a6 a7 a8 a9 a10 a11 a12 a13 a14) := by
  unfold wL_law_643
  refine rl_eq w 0 rfl rfl (by omega) (by omega) (fun z => ?_) (fun z => ?_)
  · exact rl_lt most (k : Int) rfl (rl_nI k) (by omega) (by omega) (fun z2 => absurd (h0.mp z) (by omega)) (fun _ => rl_655 hl hw hw4 h1 h2 H)
  · exact rl_lt most (k : Int) rfl (rl_nI k) (by omega) (by omega) (fun _ => rl_655 hl hw hw4 h1 h2 H) (fun z2 => absurd (h0.mpr z2) z)
/-- the waiting time at the cost ahead of k -/
def rl_last (t : Int) (M : rl_Mt) (k : Nat) : Int := if k = 1 then 0 else rl_wt t ((k : Int) - 1) M
theorem rl_last_in {t G D : Int} {M : rl_Mt} (hM : rl_cu t M = M) (h : rl_ok t G D M) {k : Nat} (h1 : 1 ≤ k) (h2 : k ≤ 20) :
    (-10 ≤ rl_last t M k ∧ rl_last t M k ≤ 300) ∧ (rl_last t M k = -4 → rl_wt t (k : Int) M = -4) ∧ (rl_wt t (k : Int) M < 0 ∨ rl_last t M k ≤ rl_wt t (k : Int) M) := by
  have w := rl_wt_one hM h (k : Int) (by omega)
  unfold rl_last
  by_cases e : k = 1
  · rw [if_pos e]
    refine ⟨by omega, fun z => absurd z (by decide), by omega⟩
  · rw [if_neg e]
    have w1 := rl_wt_one hM h ((k : Int) - 1) (by omega)
    have w2 := rl_wt_two hM h ((k : Int) - 1) (by omega)
    rw [show (k : Int) - 1 + 1 = (k : Int) by omega] at w2
    refine ⟨by omega, w2.1, ?_⟩
    rcases w2.2 with z | z
    · exact Or.inl (by omega)
    · exact Or.inr z
theorem rl_616 {post : Int32 → Prop} {L : Nat} {xs : Nat → Int32} {J12 : Int32 → Int32 → Int32 → (Nat → Int32) → (Nat → Int32) → (Nat → Int32) → (Nat → Int32) → (Nat → Int32) → (Nat → Int32) → (Nat → Int32) → (Nat → Int32) → (Nat → Int32) → (Nat → Int32) → (Nat → Int32) → (Nat → Int32) → (Nat → Int32) → (Nat → Int32) → Prop} {kc ks : Nat} {J596 : Int32 → Int32 → (Nat → Int32) → (Nat → Int32) → (Nat → Int32) → (Nat → Int32) → (Nat → Int32) → (Nat → Int32) → (Nat → Int32) → (Nat → Int32) → (Nat → Int32) → (Nat → Int32) → (Nat → Int32) → (Nat → Int32) → (Nat → Int32) → (Nat → Int32) → Prop} {x2 x3 : Int32} {t G D : Int} {P : Nat → rl_Mt} {m : Nat} (hm : m < 4) (ht : 0 ≤ t ∧ t ≤ 100000) (hG : G ≤ 1000) (hD : D ≤ 1000) (hk : rl_ok t G D (P m)) (hcu : rl_cu t (P m) = P m)
    (HJ : ∀ (f0 : Int32) (a1 a2 a3 a4 a5 a6 a7 a8 a9 a10 a11 a12 a13 a14 : Nat → Int32), rl_Rel t P (f0, a1, a2, a3, a4, a5, a6, a7, a8, a9, a10, a11, a12, a13, a14) → J596 (nI (m + 1)) f0 a1 a2 a3 a4 a5 a6 a7 a8 a9 a10 a11 a12 a13 a14) :
    ∀ (d k : Nat) (f0 : Int32) (a1 a2 a3 a4 a5 a6 a7 a8 a9 a10 a11 a12 a13 a14 : Nat → Int32), k + d = 21 → 1 ≤ k → rl_Rel t P (f0, a1, a2, a3, a4, a5, a6, a7, a8, a9, a10, a11, a12, a13, a14) → wL_law_616 post L xs J12 J596 x2 x3 (nI m) (rl_i (rl_cl (rl_rm t (P m)))) kc ks (d + 1) (rl_i (rl_last t (P m) k)) (nI k) f0 a1 a2 a3 a4 a5 a6 a7 a8 a9 a10 a11 a12 a13 a14 := by
  have hr := rl_rm_in hk
  have hcl : 0 ≤ rl_cl (rl_rm t (P m)) ∧ rl_cl (rl_rm t (P m)) ≤ 20 := by
    unfold rl_cl
    split <;> omega
  have hgs : 0 ≤ rl_gs (P m) ∧ rl_gs (P m) ≤ 20 * G := by
    rcases e : P m with ⟨kd, rt, bu, sp, gs, dc, tk, fl, du, l⟩
    rw [e] at hk
    exact hk.2.2.2.2.1
  have hdc : 0 ≤ rl_dc (P m) ∧ rl_dc (P m) ≤ D := by
    rcases e : P m with ⟨kd, rt, bu, sp, gs, dc, tk, fl, du, l⟩
    rw [e] at hk
    exact hk.2.2.2.2.2.1
  intro d
  induction d with
  | zero =>
    intro k f0 a1 a2 a3 a4 a5 a6 a7 a8 a9 a10 a11 a12 a13 a14 hd h1 hR
    refine pk_le 21 k (fun _ => ?_) (fun z => absurd z (by omega))
    refine rl_lt (rl_cl (rl_rm t (P m))) 0 rfl rfl (by omega) (by omega) (fun z => absurd z (by omega)) (fun _ => ?_)
    refine rl_lt 20 (rl_cl (rl_rm t (P m))) rfl rfl (by omega) (by omega) (fun z => absurd z (by omega)) (fun _ => ?_)
    refine rl_granted hm hR (rl_lt (rl_gs (P m)) 0 rfl rfl (by omega) (by omega) (fun z => absurd z (by omega)) (fun _ => ?_))
    exact rl_denied hm hR (rl_le 0 (rl_dc (P m)) rfl rfl (by omega) (by omega) (fun _ => nm_r (nI_1 m) (HJ _ _ _ _ _ _ _ _ _ _ _ _ _ _ _ hR)) (fun z => absurd z (by omega)))
  | succ d ih =>
    intro k f0 a1 a2 a3 a4 a5 a6 a7 a8 a9 a10 a11 a12 a13 a14 hd h1 hR
    refine pk_le 21 k (fun z => absurd z (by omega)) (fun _ => ?_)
    have hl := rl_last_in hcu hk h1 (show k ≤ 20 by omega)
    have w := rl_wt_one hcu hk (k : Int) (by omega)
    rw [rl_nI k]
    refine rl_wait hm ht (by omega) hcu hk hR ?_
    rintro ⟨f0x, a1x, a2x, a3x, a4x, a5x, a6x, a7x, a8x, a9x, a10x, a11x, a12x, a13x, a14x⟩ hR'
    have hn := ih (k + 1) f0x a1x a2x a3x a4x a5x a6x a7x a8x a9x a10x a11x a12x a13x a14x (by omega) (by omega) hR'
    have el : rl_last t (P m) (k + 1) = rl_wt t (k : Int) (P m) := by
      unfold rl_last
      rw [if_neg (by omega)]
      congr 1
      omega
    rw [el] at hn
    rw [← rl_nI k]
    refine rl_643 (by omega) hcl ?_ hl.1 (by omega) (by omega) hl.2.1 hl.2.2 hn
    have hcl2 : (k : Int) ≤ rl_cl (rl_rm t (P m)) ↔ (k : Int) ≤ rl_rm t (P m) := by
      unfold rl_cl
      split <;> omega
    rw [hcl2]
    omega
theorem rl_596 {post : Int32 → Prop} {L : Nat} {xs : Nat → Int32} {J12 : Int32 → Int32 → Int32 → (Nat → Int32) → (Nat → Int32) → (Nat → Int32) → (Nat → Int32) → (Nat → Int32) → (Nat → Int32) → (Nat → Int32) → (Nat → Int32) → (Nat → Int32) → (Nat → Int32) → (Nat → Int32) → (Nat → Int32) → (Nat → Int32) → (Nat → Int32) → Prop} {kc ks : Nat} {x3 : Int32} {t G D : Int} (ht : 0 ≤ t ∧ t ≤ 100000) (hG : G ≤ 1000) (hD : D ≤ 1000)
    (HJ : ∀ P (f0 : Int32) (a1 a2 a3 a4 a5 a6 a7 a8 a9 a10 a11 a12 a13 a14 : Nat → Int32), rl_Rel t P (f0, a1, a2, a3, a4, a5, a6, a7, a8, a9, a10, a11, a12, a13, a14) → (∀ j, j < 4 → rl_ok t G D (P j)) → J12 (rl_i t) (x3 + 4) f0 a1 a2 a3 a4 a5 a6 a7 a8 a9 a10 a11 a12 a13 a14) :
    ∀ (d k : Nat) (P : Nat → rl_Mt) (f0 : Int32) (a1 a2 a3 a4 a5 a6 a7 a8 a9 a10 a11 a12 a13 a14 : Nat → Int32), k + d = 4 → rl_Rel t P (f0, a1, a2, a3, a4, a5, a6, a7, a8, a9, a10, a11, a12, a13, a14) → (∀ j, j < 4 → rl_ok t G D (P j)) → wL_law_596 post L xs J12 (rl_i t) x3 kc ks (d + 1) (nI k) f0 a1 a2 a3 a4 a5 a6 a7 a8 a9 a10 a11 a12 a13 a14 := by
  intro d
  induction d with
  | zero =>
    intro k P f0 a1 a2 a3 a4 a5 a6 a7 a8 a9 a10 a11 a12 a13 a14 hd hR hk
    exact pk_le 4 k (fun _ => nm_e (HJ P _ _ _ _ _ _ _ _ _ _ _ _ _ _ _ hR hk)) (fun z => absurd z (by omega))
  | succ d ih =>
    intro k P f0 a1 a2 a3 a4 a5 a6 a7 a8 a9 a10 a11 a12 a13 a14 hd hR hk
    refine pk_le 4 k (fun z => absurd z (by omega)) (fun _ => ?_)
    have hk4 : k < 4 := by omega
    refine rl_room hk4 ht (hk k hk4) hR ?_
    rintro ⟨f0x, a1x, a2x, a3x, a4x, a5x, a6x, a7x, a8x, a9x, a10x, a11x, a12x, a13x, a14x⟩ hR'
    have hk' := rl_cu_ok ht.1 (hk k hk4)
    have ho := rl_okup (m := k) hk hk'
    refine ⟨20 + 1, ?_⟩
    have h := rl_616 (post := post) (L := L) (xs := xs) (J12 := J12) (kc := kc) (ks := ks) (x2 := rl_i t) (x3 := x3) (P := rl_up P k (rl_cu t (P k))) hk4 ht hG hD (by rw [rl_up_s]; exact hk') (by rw [rl_up_s]; exact rl_cu_cu) (fun f0 a1 a2 a3 a4 a5 a6 a7 a8 a9 a10 a11 a12 a13 a14 hR2 => ih (k + 1) _ f0 a1 a2 a3 a4 a5 a6 a7 a8 a9 a10 a11 a12 a13 a14 (by omega) hR2 ho) 20 1 f0x a1x a2x a3x a4x a5x a6x a7x a8x a9x a10x a11x a12x a13x a14x (by omega) (by omega) hR'
    rw [rl_up_s] at h
    exact h
theorem rl_542 {post : Int32 → Prop} {L : Nat} {xs : Nat → Int32} {J12 : Int32 → Int32 → Int32 → (Nat → Int32) → (Nat → Int32) → (Nat → Int32) → (Nat → Int32) → (Nat → Int32) → (Nat → Int32) → (Nat → Int32) → (Nat → Int32) → (Nat → Int32) → (Nat → Int32) → (Nat → Int32) → (Nat → Int32) → (Nat → Int32) → (Nat → Int32) → Prop} {kc ks : Nat} {x3 : Int32} {t G D : Int} {P : Nat → rl_Mt} {f0 : Int32} {a1 a2 a3 a4 a5 a6 a7 a8 a9 a10 a11 a12 a13 a14 : Nat → Int32} (ht : 0 ≤ t ∧ t ≤ 100000) (hG : G ≤ 1000) (hD : D ≤ 1000)
    (HJ : ∀ P (f0 : Int32) (a1 a2 a3 a4 a5 a6 a7 a8 a9 a10 a11 a12 a13 a14 : Nat → Int32), rl_Rel t P (f0, a1, a2, a3, a4, a5, a6, a7, a8, a9, a10, a11, a12, a13, a14) → (∀ j, j < 4 → rl_ok t G D (P j)) → J12 (rl_i t) (x3 + 4) f0 a1 a2 a3 a4 a5 a6 a7 a8 a9 a10 a11 a12 a13 a14)
    (hR : rl_Rel t P (f0, a1, a2, a3, a4, a5, a6, a7, a8, a9, a10, a11, a12, a13, a14)) (hk : ∀ j, j < 4 → rl_ok t G D (P j)) : wL_law_542 post L xs J12 (rl_i t) x3 kc ks f0 a1 a2 a3 a4 a5 a6 a7 a8 a9 a10 a11 a12 a13 a14 := by
  unfold wL_law_542 wpX_time
  dsimp only
  refine br_t hR.1 (rl_room_out (by decide) (br_t rfl (rl_granted_out (by decide) (br_t rfl ?_))))
  refine rl_wait_c (m := 0) (by omega) (by decide) (br_t rfl (rl_wait_m (by decide) (br_t rfl ⟨4 + 1, ?_⟩)))
  exact rl_596 ht hG hD HJ 4 0 P f0 a1 a2 a3 a4 a5 a6 a7 a8 a9 a10 a11 a12 a13 a14 (by omega) hR hk
/-- what the law noted ahead of the call: the counters and the room of the meter x, if there is one -/
def rl_K (t : Int) (P : Nat → rl_Mt) (x x8 x9 x10 iz : Int32) : Prop :=
  ((x < 0 ∨ ¬ x < 4) ∧ iz = 0) ∨ (iz = 1 ∧ ∃ m, m < 4 ∧ x = nI m ∧ x8 = rl_i (rl_gs (P m)) ∧ x9 = rl_i (rl_dc (P m)) ∧ x10 = rl_i (rl_cl (rl_rm t (rl_cu t (P m)))))
theorem rl_497 {post : Int32 → Prop} {L : Nat} {xs : Nat → Int32} {J12 : Int32 → Int32 → Int32 → (Nat → Int32) → (Nat → Int32) → (Nat → Int32) → (Nat → Int32) → (Nat → Int32) → (Nat → Int32) → (Nat → Int32) → (Nat → Int32) → (Nat → Int32) → (Nat → Int32) → (Nat → Int32) → (Nat → Int32) → (Nat → Int32) → (Nat → Int32) → Prop} {kc ks : Nat} {x3 x x8 x9 x10 iz : Int32} {t got G D : Int} {P : Nat → rl_Mt} {f0 : Int32} {a1 a2 a3 a4 a5 a6 a7 a8 a9 a10 a11 a12 a13 a14 : Nat → Int32} (ht : 0 ≤ t ∧ t ≤ 100000) (hG : G ≤ 1000) (hD : D ≤ 1000)
    (HJ : ∀ P (f0 : Int32) (a1 a2 a3 a4 a5 a6 a7 a8 a9 a10 a11 a12 a13 a14 : Nat → Int32), rl_Rel t P (f0, a1, a2, a3, a4, a5, a6, a7, a8, a9, a10, a11, a12, a13, a14) → (∀ j, j < 4 → rl_ok t G D (P j)) → J12 (rl_i t) (x3 + 4) f0 a1 a2 a3 a4 a5 a6 a7 a8 a9 a10 a11 a12 a13 a14)
    (hR : rl_Rel t P (f0, a1, a2, a3, a4, a5, a6, a7, a8, a9, a10, a11, a12, a13, a14)) (hk : ∀ j, j < 4 → rl_ok t G D (P j)) (hg : -10 ≤ got ∧ got ≤ 100000) (hK : 0 ≤ got ∨ rl_K t P x x8 x9 x10 iz) : wL_law_497 post L xs J12 (rl_i t) x3 x x8 x9 x10 (rl_i got) iz kc ks f0 a1 a2 a3 a4 a5 a6 a7 a8 a9 a10 a11 a12 a13 a14 := by
  unfold wL_law_497
  refine rl_le 0 got rfl rfl (by omega) (by omega) (fun _ => rl_542 ht hG hD HJ hR hk) (fun z => ?_)
  rcases hK with z1 | ⟨_, rfl⟩ | ⟨rfl, m, hm, rfl, rfl, rfl, rfl⟩
  · exact absurd z1 (by omega)
  · exact br_t rfl (rl_542 ht hG hD HJ hR hk)
  · refine br_f (by decide) (rl_granted hm hR (br_t rfl (rl_denied hm hR (br_t rfl (rl_room hm ht (hk m hm) hR ?_)))))
    rintro ⟨f0y, a1y, a2y, a3y, a4y, a5y, a6y, a7y, a8y, a9y, a10y, a11y, a12y, a13y, a14y⟩ hR'
    exact br_t rfl (rl_542 ht hG hD HJ hR' (rl_okup hk (rl_cu_ok ht.1 (hk m hm))))
end
section
/-! the call and its check, kind by kind. HQ: from the check with its two flags to what stands behind the call -/
theorem rl_gs_cu (t : Int) (M : rl_Mt) : rl_gs (rl_cu t M) = rl_gs M := rfl
theorem rl_dc_cu (t : Int) (M : rl_Mt) : rl_dc (rl_cu t M) = rl_dc M := rfl
theorem rl_gs_dn (M : rl_Mt) : rl_gs (rl_dn M) = rl_gs M := rfl
theorem rl_dc_dn (M : rl_Mt) : rl_dc (rl_dn M) = rl_dc M + 1 := rfl
theorem rl_gs_gr (t c : Int) (M : rl_Mt) : rl_gs (rl_gr t c M) = rl_gs M + c := by
  obtain ⟨kd, rt, bu, sp, gs, dc, tk, fl, du, l⟩ := M
  unfold rl_gr
  dsimp only
  split
  · rfl
  · split <;> rfl
theorem rl_dc_gr (t c : Int) (M : rl_Mt) : rl_dc (rl_gr t c M) = rl_dc M := by
  obtain ⟨kd, rt, bu, sp, gs, dc, tk, fl, du, l⟩ := M
  unfold rl_gr
  dsimp only
  split
  · rfl
  · split <;> rfl
/-! set -/
theorem rl_238n {post : Int32 → Prop} {L : Nat} {xs : Nat → Int32} {J12 : Int32 → Int32 → Int32 → (Nat → Int32) → (Nat → Int32) → (Nat → Int32) → (Nat → Int32) → (Nat → Int32) → (Nat → Int32) → (Nat → Int32) → (Nat → Int32) → (Nat → Int32) → (Nat → Int32) → (Nat → Int32) → (Nat → Int32) → (Nat → Int32) → (Nat → Int32) → Prop} {kc ks : Nat} {x2 x3 x x8 x9 x10 x15 iz : Int32} {got : Int} {f0 : Int32} {a1 a2 a3 a4 a5 a6 a7 a8 a9 a10 a11 a12 a13 a14 : Nat → Int32} (hg : -10 ≤ got ∧ got < 0) (H : wL_law_497 post L xs J12 x2 x3 x x8 x9 x10 (rl_i got) iz kc ks f0 a1 a2 a3 a4 a5 a6 a7 a8 a9 a10 a11 a12 a13 a14) :
    wL_law_238 post L xs J12 x2 x3 x x8 x9 x10 (rl_i got) iz x15 (rl_i got) kc ks f0 a1 a2 a3 a4 a5 a6 a7 a8 a9 a10 a11 a12 a13 a14 := by
  unfold wL_law_238
  refine br_t rfl (rl_eq got 0 rfl rfl (by omega) (by omega) (fun z => absurd z (by omega)) (fun _ => ?_))
  unfold wL_law_295
  exact H
theorem rl_200 {post : Int32 → Prop} {L : Nat} {xs : Nat → Int32} {J12 : Int32 → Int32 → Int32 → (Nat → Int32) → (Nat → Int32) → (Nat → Int32) → (Nat → Int32) → (Nat → Int32) → (Nat → Int32) → (Nat → Int32) → (Nat → Int32) → (Nat → Int32) → (Nat → Int32) → (Nat → Int32) → (Nat → Int32) → (Nat → Int32) → (Nat → Int32) → Prop} {kc ks : Nat} {x2 x3 x y x8 x9 x10 x11 x15 iz oz : Int32} {f0 : Int32} {a1 a2 a3 a4 a5 a6 a7 a8 a9 a10 a11 a12 a13 a14 : Nat → Int32}
    (H1 : iz = 0 → wL_law_238 post L xs J12 x2 x3 x x8 x9 x10 x11 iz x15 (-1) kc ks f0 a1 a2 a3 a4 a5 a6 a7 a8 a9 a10 a11 a12 a13 a14)
    (H2 : ¬ iz = 0 → (y < 0 ∨ ¬ y ≤ 2) → wL_law_238 post L xs J12 x2 x3 x x8 x9 x10 x11 iz x15 (-2) kc ks f0 a1 a2 a3 a4 a5 a6 a7 a8 a9 a10 a11 a12 a13 a14)
    (H3 : ¬ iz = 0 → ¬ (y < 0 ∨ ¬ y ≤ 2) → ¬ oz = 0 → wL_law_238 post L xs J12 x2 x3 x x8 x9 x10 x11 iz x15 (-3) kc ks f0 a1 a2 a3 a4 a5 a6 a7 a8 a9 a10 a11 a12 a13 a14)
    (H4 : ¬ iz = 0 → ¬ (y < 0 ∨ ¬ y ≤ 2) → oz = 0 → wL_law_238 post L xs J12 x2 x3 x x8 x9 x10 x11 iz x15 0 kc ks f0 a1 a2 a3 a4 a5 a6 a7 a8 a9 a10 a11 a12 a13 a14) :
    wL_law_200 post L xs J12 x2 x3 x y x8 x9 x10 x11 iz x15 oz kc ks f0 a1 a2 a3 a4 a5 a6 a7 a8 a9 a10 a11 a12 a13 a14 := by
  unfold wL_law_200
  refine br_c H1 (fun z => br_c (fun z2 => ?_) (fun z2 => br_c (fun z3 => ?_) (fun z3 => ?_)))
  · unfold wL_law_222
    exact H2 z (Or.inl z2)
  · exact br_c (fun o => H4 z (fun q => q.elim z2 (fun w => w z3)) o) (fun o => H3 z (fun q => q.elim z2 (fun w => w z3)) o)
  · unfold wL_law_222
    exact H2 z (Or.inr z3)
theorem rl_123s {post : Int32 → Prop} {L : Nat} {xs : Nat → Int32} {J12 : Int32 → Int32 → Int32 → (Nat → Int32) → (Nat → Int32) → (Nat → Int32) → (Nat → Int32) → (Nat → Int32) → (Nat → Int32) → (Nat → Int32) → (Nat → Int32) → (Nat → Int32) → (Nat → Int32) → (Nat → Int32) → (Nat → Int32) → (Nat → Int32) → (Nat → Int32) → Prop} {kc ks : Nat} {x2 x3 x y z x8 x9 x10 x11 iz gz : Int32} {kk r b s : Nat} {f0 : Int32} {a1 a2 a3 a4 a5 a6 a7 a8 a9 a10 a11 a12 a13 a14 : Nat → Int32} (hkk : kk < 4) (h4 : z &&& 7 = nI r) (h5 : (z >>> ((3 : Int32) &&& 31)) &&& 31 = nI b) (h6 : (z >>> ((8 : Int32) &&& 31)) &&& 15 = nI s) (hr : r < 8) (hb : b < 32) (hs : s < 16)
    (HA : rl_odd r b s → wL_law_200 post L xs J12 x2 x3 x y x8 x9 x10 x11 iz (nI b) 1 kc ks f0 a1 a2 a3 a4 a5 a6 a7 a8 a9 a10 a11 a12 a13 a14)
    (HB : ¬ rl_odd r b s → wL_law_200 post L xs J12 x2 x3 x y x8 x9 x10 x11 iz (nI b) 0 kc ks f0 a1 a2 a3 a4 a5 a6 a7 a8 a9 a10 a11 a12 a13 a14) :
    wL_law_123 post L xs J12 x2 x3 (nI kk) x y z x8 x9 x10 x11 iz gz kc ks f0 a1 a2 a3 a4 a5 a6 a7 a8 a9 a10 a11 a12 a13 a14 := by
  unfold wL_law_123
  refine pk_le 4 kk (fun q => absurd q (by omega)) (fun _ => ?_)
  refine nm_r h4 (nm_r h5 (nm_r h6 (rl_odd_c rfl rfl rfl hr hb hs (fun o => ?_) HB)))
  unfold wL_law_195
  exact HA o
theorem rl_rm_start {t kd r b s : Int} (ht : 0 ≤ t) (hk : 0 ≤ kd ∧ kd ≤ 2) (hs : 1 ≤ s) : rl_rm t (rl_cu t (kd, r, b, s, 0, 0, b, t, -1000000, [])) = b := by
  have e : rl_tk t r b b t = b := by
    unfold rl_tk
    rw [Int.sub_self, Int.mul_zero, Int.add_zero, if_pos (Int.le_refl b)]
  have eb : rl_bs t (-1000000) = t := if_pos (by omega)
  show (if kd = 0 then rl_tk t r b b t else if kd = 1 then b - rl_sum (rl_drop (t - s) []) else (b * s - (rl_bs t (-1000000) - t)) / s) = b
  rw [e, eb]
  split
  · rfl
  · split
    · show b - 0 = b
      omega
    · rw [Int.sub_self, Int.sub_zero]
      exact Int.mul_ediv_cancel b (by omega)
theorem rl_238z {post : Int32 → Prop} {L : Nat} {xs : Nat → Int32} {J12 : Int32 → Int32 → Int32 → (Nat → Int32) → (Nat → Int32) → (Nat → Int32) → (Nat → Int32) → (Nat → Int32) → (Nat → Int32) → (Nat → Int32) → (Nat → Int32) → (Nat → Int32) → (Nat → Int32) → (Nat → Int32) → (Nat → Int32) → (Nat → Int32) → (Nat → Int32) → Prop} {kc ks : Nat} {x2 x3 x8 x9 x10 iz : Int32} {t G D kd : Int} {P : Nat → rl_Mt} {m r b s : Nat} {f0 : Int32} {a1 a2 a3 a4 a5 a6 a7 a8 a9 a10 a11 a12 a13 a14 : Nat → Int32} (hm : m < 4) (ht : 0 ≤ t ∧ t ≤ 100000) (hb : b < 32) (hs : 1 ≤ s) (hkd : 0 ≤ kd ∧ kd ≤ 2)
    (hP : P m = (kd, (r : Int), (b : Int), (s : Int), 0, 0, (b : Int), t, -1000000, [])) (hk : rl_ok t G D (P m)) (hR : rl_Rel t P (f0, a1, a2, a3, a4, a5, a6, a7, a8, a9, a10, a11, a12, a13, a14))
    (H : ∀ (f0 : Int32) (a1 a2 a3 a4 a5 a6 a7 a8 a9 a10 a11 a12 a13 a14 : Nat → Int32), rl_Rel t (rl_up P m (rl_cu t (P m))) (f0, a1, a2, a3, a4, a5, a6, a7, a8, a9, a10, a11, a12, a13, a14) → wL_law_497 post L xs J12 x2 x3 (nI m) x8 x9 x10 0 iz kc ks f0 a1 a2 a3 a4 a5 a6 a7 a8 a9 a10 a11 a12 a13 a14) :
    wL_law_238 post L xs J12 x2 x3 (nI m) x8 x9 x10 0 iz (nI b) 0 kc ks f0 a1 a2 a3 a4 a5 a6 a7 a8 a9 a10 a11 a12 a13 a14 := by
  unfold wL_law_238
  have eg : rl_i (rl_gs (P m)) = 0 := by rw [hP]; rfl
  have ed : rl_i (rl_dc (P m)) = 0 := by rw [hP]; rfl
  have er : rl_rm t (rl_cu t (P m)) = (b : Int) := by rw [hP]; exact rl_rm_start ht.1 hkd (by omega)
  refine br_t rfl (br_t rfl (rl_granted hm hR (br_t eg (rl_denied hm hR (br_t ed (rl_room hm ht hk hR ?_))))))
  rintro ⟨f0x, a1x, a2x, a3x, a4x, a5x, a6x, a7x, a8x, a9x, a10x, a11x, a12x, a13x, a14x⟩ hR'
  have H' := H f0x a1x a2x a3x a4x a5x a6x a7x a8x a9x a10x a11x a12x a13x a14x hR'
  rw [er]
  dsimp only
  unfold wL_law_290 wL_law_295
  refine rl_le (b : Int) 20 (rl_nI b) rfl (by omega) (by omega) (fun z => br_t ?_ H') (fun z => br_t ?_ H')
  · rw [rl_nI b]
    exact congrArg rl_i (if_pos z)
  · exact congrArg rl_i (if_neg (by omega))
theorem rl_bset {post : Int32 → Prop} {L : Nat} {xs : Nat → Int32} {J12 : Int32 → Int32 → Int32 → (Nat → Int32) → (Nat → Int32) → (Nat → Int32) → (Nat → Int32) → (Nat → Int32) → (Nat → Int32) → (Nat → Int32) → (Nat → Int32) → (Nat → Int32) → (Nat → Int32) → (Nat → Int32) → (Nat → Int32) → (Nat → Int32) → (Nat → Int32) → Prop} {kc ks : Nat} {Q : Int32 → St1 → Prop} {x3 x y z x8 x9 x10 iz gz : Int32} {kk : Nat} {t G : Int} {P : Nat → rl_Mt} {f0 : Int32} {a1 a2 a3 a4 a5 a6 a7 a8 a9 a10 a11 a12 a13 a14 : Nat → Int32} (hkk : kk < 4) (ht : 0 ≤ t ∧ t ≤ 100000) (hG : 0 ≤ G ∧ G ≤ 900)
    (HJ : ∀ P (f0 : Int32) (a1 a2 a3 a4 a5 a6 a7 a8 a9 a10 a11 a12 a13 a14 : Nat → Int32), rl_Rel t P (f0, a1, a2, a3, a4, a5, a6, a7, a8, a9, a10, a11, a12, a13, a14) → (∀ j, j < 4 → rl_ok t (G + 1) (G + 1) (P j)) → J12 (rl_i t) (x3 + 4) f0 a1 a2 a3 a4 a5 a6 a7 a8 a9 a10 a11 a12 a13 a14)
    (hR : rl_Rel t P (f0, a1, a2, a3, a4, a5, a6, a7, a8, a9, a10, a11, a12, a13, a14)) (hk : ∀ j, j < 4 → rl_ok t G G (P j)) (hK : rl_K t P x x8 x9 x10 iz)
    (HQ : ∀ r (f0 : Int32) (a1 a2 a3 a4 a5 a6 a7 a8 a9 a10 a11 a12 a13 a14 : Nat → Int32), wL_law_123 post L xs J12 (rl_i t) x3 (nI kk) x y z x8 x9 x10 r iz gz kc ks f0 a1 a2 a3 a4 a5 a6 a7 a8 a9 a10 a11 a12 a13 a14 → Q r (f0, a1, a2, a3, a4, a5, a6, a7, a8, a9, a10, a11, a12, a13, a14)) : wpX_set Q (f0, a1, a2, a3, a4, a5, a6, a7, a8, a9, a10, a11, a12, a13, a14) x y z := by
  obtain ⟨r, hr, h4⟩ := pk_andE z (m := 7) 3 (by decide)
  obtain ⟨b, hb, h5⟩ := pk_andE (z >>> ((3 : Int32) &&& 31)) (m := 31) 5 (by decide)
  obtain ⟨s, hs, h6⟩ := pk_andE (z >>> ((8 : Int32) &&& 31)) (m := 15) 4 (by decide)
  have hk1 : ∀ j, j < 4 → rl_ok t (G + 1) (G + 1) (P j) := fun j hj => rl_ok_mono (Int.le_refl t) (by omega) (by omega) (hk j hj)
  have hN : ∀ (got : Int) (v : Int32), rl_i got = v → -10 ≤ got ∧ got < 0 → wL_law_238 post L xs J12 (rl_i t) x3 x x8 x9 x10 v iz (nI b) v kc ks f0 a1 a2 a3 a4 a5 a6 a7 a8 a9 a10 a11 a12 a13 a14 := fun got v hv hg => hv ▸
    rl_238n hg (rl_497 ht (by omega) (by omega) HJ hR hk1 (by omega) (Or.inr hK))
  rcases hK with ⟨hx, hi⟩ | ⟨hi, m, hm, rfl, h8, h9, h10⟩
  · refine rl_set_m hx (HQ _ _ _ _ _ _ _ _ _ _ _ _ _ _ _ _ ?_)
    have h200 : ∀ oz : Int32, wL_law_200 post L xs J12 (rl_i t) x3 x y x8 x9 x10 (-1) iz (nI b) oz kc ks f0 a1 a2 a3 a4 a5 a6 a7 a8 a9 a10 a11 a12 a13 a14 := fun oz =>
      rl_200 (fun _ => hN (-1) (-1) rfl (by omega)) (fun q => absurd hi q) (fun q => absurd hi q) (fun q => absurd hi q)
    exact rl_123s hkk h4 h5 h6 hr hb hs (fun _ => h200 1) (fun _ => h200 0)
  · have hi0 : ¬ iz = 0 := by rw [hi]; decide
    refine rl_set hm h4 h5 h6 hr hb hs hR (fun hy => HQ _ _ _ _ _ _ _ _ _ _ _ _ _ _ _ _ ?_) (fun hy ho => HQ _ _ _ _ _ _ _ _ _ _ _ _ _ _ _ _ ?_) (fun ho kd k0 k2 hy => ?_)
    · have h200 : ∀ oz : Int32, wL_law_200 post L xs J12 (rl_i t) x3 (nI m) y x8 x9 x10 (-2) iz (nI b) oz kc ks f0 a1 a2 a3 a4 a5 a6 a7 a8 a9 a10 a11 a12 a13 a14 := fun oz =>
        rl_200 (fun q => absurd q hi0) (fun _ _ => hN (-2) (-2) rfl (by omega)) (fun _ q => absurd hy q) (fun _ q => absurd hy q)
      exact rl_123s hkk h4 h5 h6 hr hb hs (fun _ => h200 1) (fun _ => h200 0)
    · refine rl_123s hkk h4 h5 h6 hr hb hs (fun _ => ?_) (fun q => absurd ho q)
      exact rl_200 (fun q => absurd q hi0) (fun _ q => absurd q hy) (fun _ _ _ => hN (-3) (-3) rfl (by omega)) (fun _ _ q => absurd q (by decide))
    · rintro ⟨f0x, a1x, a2x, a3x, a4x, a5x, a6x, a7x, a8x, a9x, a10x, a11x, a12x, a13x, a14x⟩ hR'
      refine HQ _ _ _ _ _ _ _ _ _ _ _ _ _ _ _ _ ?_
      have hy' : ¬ (y < 0 ∨ ¬ y ≤ 2) := by
        rw [hy]
        intro q
        rcases q with q | q
        · exact absurd ((rl_ltI (b := 0) (by omega) (by omega)).mp q) (by omega)
        · exact q ((rl_leI (b := 2) (by omega) (by omega)).mpr k2)
      have ho' := ho
      unfold rl_odd at ho'
      have hM : rl_ok t (G + 1) (G + 1) (kd, (r : Int), (b : Int), (s : Int), 0, 0, (b : Int), t, -1000000, []) := by
        have hp := Int.mul_nonneg (show (0 : Int) ≤ (b : Int) by omega) (show (0 : Int) ≤ (s : Int) by omega)
        refine ⟨⟨k0, k2⟩, ⟨by omega, by omega⟩, ⟨by omega, by omega⟩, ⟨by omega, by omega⟩, ⟨by omega, by omega⟩, ⟨by omega, by omega⟩, ⟨by omega, by omega⟩, ⟨ht.1, Int.le_refl t⟩, ⟨by omega, by omega⟩, trivial, ?_⟩
        show (0 : Int) ≤ (b : Int)
        omega
      have ho2 := rl_okup (m := m) hk1 hM
      refine rl_123s hkk h4 h5 h6 hr hb hs (fun q => absurd q ho) (fun _ => ?_)
      refine rl_200 (fun q => absurd q hi0) (fun _ q => absurd q hy') (fun _ _ q => absurd rfl q) (fun _ _ _ => ?_)
      refine rl_238z (r := r) (s := s) (kd := kd) (G := G + 1) (D := G + 1) hm ht hb (by omega) ⟨k0, k2⟩ rl_up_s (by rw [rl_up_s]; exact hM) hR' ?_
      intro f0y a1y a2y a3y a4y a5y a6y a7y a8y a9y a10y a11y a12y a13y a14y hR2
      exact rl_497 (got := 0) ht (by omega) (by omega) HJ hR2 (rl_okup ho2 (rl_cu_ok ht.1 (by rw [rl_up_s]; exact hM))) (by omega) (Or.inl (by omega))
/-! ask -/
theorem rl_336o {post : Int32 → Prop} {L : Nat} {xs : Nat → Int32} {J12 : Int32 → Int32 → Int32 → (Nat → Int32) → (Nat → Int32) → (Nat → Int32) → (Nat → Int32) → (Nat → Int32) → (Nat → Int32) → (Nat → Int32) → (Nat → Int32) → (Nat → Int32) → (Nat → Int32) → (Nat → Int32) → (Nat → Int32) → (Nat → Int32) → (Nat → Int32) → Prop} {kc ks : Nat} {x2 x3 x y x8 x9 x10 z : Int32} {f0 : Int32} {a1 a2 a3 a4 a5 a6 a7 a8 a9 a10 a11 a12 a13 a14 : Nat → Int32} (H : wL_law_497 post L xs J12 x2 x3 x x8 x9 x10 z 0 kc ks f0 a1 a2 a3 a4 a5 a6 a7 a8 a9 a10 a11 a12 a13 a14) :
    wL_law_336 post L xs J12 x2 x3 x y x8 x9 x10 z 0 z kc ks f0 a1 a2 a3 a4 a5 a6 a7 a8 a9 a10 a11 a12 a13 a14 := by
  unfold wL_law_336 wL_law_400
  exact br_t rfl (br_t rfl H)
theorem rl_336i {post : Int32 → Prop} {L : Nat} {xs : Nat → Int32} {J12 : Int32 → Int32 → Int32 → (Nat → Int32) → (Nat → Int32) → (Nat → Int32) → (Nat → Int32) → (Nat → Int32) → (Nat → Int32) → (Nat → Int32) → (Nat → Int32) → (Nat → Int32) → (Nat → Int32) → (Nat → Int32) → (Nat → Int32) → (Nat → Int32) → (Nat → Int32) → Prop} {kc ks : Nat} {x2 x3 y x8 x9 x10 : Int32} {t got : Int} {P : Nat → rl_Mt} {m : Nat} {f0 : Int32} {a1 a2 a3 a4 a5 a6 a7 a8 a9 a10 a11 a12 a13 a14 : Nat → Int32} (hm : m < 4) (hg : -10 ≤ got ∧ got ≤ 1) (hR : rl_Rel t P (f0, a1, a2, a3, a4, a5, a6, a7, a8, a9, a10, a11, a12, a13, a14))
    (h8 : rl_i (rl_gs (P m)) = if got = 1 then x8 + y else x8) (h9 : rl_i (rl_dc (P m)) = if got = 0 then x9 + 1 else x9)
    (H : wL_law_497 post L xs J12 x2 x3 (nI m) x8 x9 x10 (rl_i got) 1 kc ks f0 a1 a2 a3 a4 a5 a6 a7 a8 a9 a10 a11 a12 a13 a14) :
    wL_law_336 post L xs J12 x2 x3 (nI m) y x8 x9 x10 (rl_i got) 1 (rl_i got) kc ks f0 a1 a2 a3 a4 a5 a6 a7 a8 a9 a10 a11 a12 a13 a14 := by
  have hd : ∀ v, v = rl_i (rl_gs (P m)) → wL_law_372 post L xs J12 x2 x3 (nI m) x8 x9 x10 (rl_i got) 1 v (rl_i (rl_gs (P m))) kc ks f0 a1 a2 a3 a4 a5 a6 a7 a8 a9 a10 a11 a12 a13 a14 := by
    intro v hv
    unfold wL_law_372
    refine br_t hv.symm (rl_denied hm hR ?_)
    refine rl_eq got 0 rfl rfl (by omega) (by omega) (fun z => ?_) (fun z => ?_)
    · rw [if_pos z] at h9
      unfold wL_law_395 wL_law_400
      exact br_t h9 H
    · rw [if_neg z] at h9
      unfold wL_law_395 wL_law_400
      exact br_t h9 H
  unfold wL_law_336
  refine br_t rfl (br_f (by decide) (rl_granted hm hR ?_))
  refine rl_eq got 1 rfl rfl (by omega) (by omega) (fun z => ?_) (fun z => ?_)
  · rw [if_pos z] at h8
    exact hd _ h8.symm
  · rw [if_neg z] at h8
    exact hd _ h8.symm
theorem rl_bask {post : Int32 → Prop} {L : Nat} {xs : Nat → Int32} {J12 : Int32 → Int32 → Int32 → (Nat → Int32) → (Nat → Int32) → (Nat → Int32) → (Nat → Int32) → (Nat → Int32) → (Nat → Int32) → (Nat → Int32) → (Nat → Int32) → (Nat → Int32) → (Nat → Int32) → (Nat → Int32) → (Nat → Int32) → (Nat → Int32) → (Nat → Int32) → Prop} {kc ks : Nat} {Q : Int32 → St1 → Prop} {x3 x z x8 x9 x10 iz gz : Int32} {kk : Nat} {t c G : Int} {P : Nat → rl_Mt} {f0 : Int32} {a1 a2 a3 a4 a5 a6 a7 a8 a9 a10 a11 a12 a13 a14 : Nat → Int32} (hkk : 4 ≤ kk ∧ kk < 9) (ht : 0 ≤ t ∧ t ≤ 100000) (hG : 0 ≤ G ∧ G ≤ 900)
    (hc : -2147483648 ≤ c ∧ c ≤ 2147483647) (hz : ((1 ≤ c ∧ c ≤ 20) ∧ gz = 1) ∨ ((c < 1 ∨ 20 < c) ∧ gz = 0))
    (HJ : ∀ P (f0 : Int32) (a1 a2 a3 a4 a5 a6 a7 a8 a9 a10 a11 a12 a13 a14 : Nat → Int32), rl_Rel t P (f0, a1, a2, a3, a4, a5, a6, a7, a8, a9, a10, a11, a12, a13, a14) → (∀ j, j < 4 → rl_ok t (G + 1) (G + 1) (P j)) → J12 (rl_i t) (x3 + 4) f0 a1 a2 a3 a4 a5 a6 a7 a8 a9 a10 a11 a12 a13 a14)
    (hR : rl_Rel t P (f0, a1, a2, a3, a4, a5, a6, a7, a8, a9, a10, a11, a12, a13, a14)) (hk : ∀ j, j < 4 → rl_ok t G G (P j)) (hK : rl_K t P x x8 x9 x10 iz)
    (HQ : ∀ r (f0 : Int32) (a1 a2 a3 a4 a5 a6 a7 a8 a9 a10 a11 a12 a13 a14 : Nat → Int32), wL_law_123 post L xs J12 (rl_i t) x3 (nI kk) x (rl_i c) z x8 x9 x10 r iz gz kc ks f0 a1 a2 a3 a4 a5 a6 a7 a8 a9 a10 a11 a12 a13 a14 → Q r (f0, a1, a2, a3, a4, a5, a6, a7, a8, a9, a10, a11, a12, a13, a14)) : wpX_ask Q (f0, a1, a2, a3, a4, a5, a6, a7, a8, a9, a10, a11, a12, a13, a14) x (rl_i c) := by
  have hk1 : ∀ j, j < 4 → rl_ok t (G + 1) (G + 1) (P j) := fun j hj => rl_ok_mono (Int.le_refl t) (by omega) (by omega) (hk j hj)
  have hN : ∀ (got : Int) (v : Int32), rl_i got = v → -10 ≤ got ∧ got < 0 → wL_law_497 post L xs J12 (rl_i t) x3 x x8 x9 x10 v iz kc ks f0 a1 a2 a3 a4 a5 a6 a7 a8 a9 a10 a11 a12 a13 a14 := fun got v hv hg => hv ▸
    rl_497 ht (by omega) (by omega) HJ hR hk1 (by omega) (Or.inr hK)
  have h123 : ∀ (r : Int32) (f0 : Int32) (a1 a2 a3 a4 a5 a6 a7 a8 a9 a10 a11 a12 a13 a14 : Nat → Int32), ((iz = 0 → wL_law_336 post L xs J12 (rl_i t) x3 x (rl_i c) x8 x9 x10 r iz (-1) kc ks f0 a1 a2 a3 a4 a5 a6 a7 a8 a9 a10 a11 a12 a13 a14) ∧ (¬ iz = 0 → ((gz = 0 → wL_law_336 post L xs J12 (rl_i t) x3 x (rl_i c) x8 x9 x10 r iz (-3) kc ks f0 a1 a2 a3 a4 a5 a6 a7 a8 a9 a10 a11 a12 a13 a14) ∧ (¬ gz = 0 → ((x10 < rl_i c → wL_law_336 post L xs J12 (rl_i t) x3 x (rl_i c) x8 x9 x10 r iz 0 kc ks f0 a1 a2 a3 a4 a5 a6 a7 a8 a9 a10 a11 a12 a13 a14) ∧ (¬ x10 < rl_i c → wL_law_336 post L xs J12 (rl_i t) x3 x (rl_i c) x8 x9 x10 r iz 1 kc ks f0 a1 a2 a3 a4 a5 a6 a7 a8 a9 a10 a11 a12 a13 a14)))))) → Q r (f0, a1, a2, a3, a4, a5, a6, a7, a8, a9, a10, a11, a12, a13, a14) := by
    intro r f0 a1 a2 a3 a4 a5 a6 a7 a8 a9 a10 a11 a12 a13 a14 h
    refine HQ r _ _ _ _ _ _ _ _ _ _ _ _ _ _ _ ?_
    unfold wL_law_123
    exact pk_le 4 kk (fun _ => pk_le 9 kk (fun q => absurd q (by omega)) (fun _ => h)) (fun q => absurd q (by omega))
  rcases hK with ⟨hx, rfl⟩ | ⟨rfl, m, hm, rfl, rfl, rfl, rfl⟩
  · exact rl_ask_m hx (h123 _ _ _ _ _ _ _ _ _ _ _ _ _ _ _ _ (br_t rfl (rl_336o (hN (-1) (-1) rfl (by omega)))))
  · rcases hz with ⟨hc1, rfl⟩ | ⟨hc1, rfl⟩
    · have hkm := hk m hm
      have hcl : rl_cl (rl_rm t (rl_cu t (P m))) < c ↔ rl_rm t (rl_cu t (P m)) < c := by
        unfold rl_cl
        split <;> omega
      have hrm := rl_rm_in (rl_cu_ok ht.1 hkm)
      have hcb : 0 ≤ rl_cl (rl_rm t (rl_cu t (P m))) ∧ rl_cl (rl_rm t (rl_cu t (P m))) ≤ 20 := by
        unfold rl_cl
        split <;> omega
      refine rl_ask hm ht hc1 hkm hR (fun w => ?_) (fun w => ?_)
      · rintro ⟨f0y, a1y, a2y, a3y, a4y, a5y, a6y, a7y, a8y, a9y, a10y, a11y, a12y, a13y, a14y⟩ hR'
        refine h123 _ _ _ _ _ _ _ _ _ _ _ _ _ _ _ _ (br_f (by decide) (br_f (by decide) (rl_lt _ c rfl rfl (by omega) (by omega) (fun q => absurd (hcl.mp q) (by omega)) (fun _ => ?_))))
        refine rl_336i (got := 1) hm (by omega) hR' ?_ ?_ (rl_497 (got := 1) ht (by omega) (by omega) HJ hR' ?_ (by omega) (Or.inl (by omega)))
        · rw [rl_up_s, rl_gs_gr, rl_gs_cu, if_pos rfl, rl_add]
        · rw [rl_up_s, rl_dc_gr, rl_dc_cu, if_neg (by decide)]
        · exact rl_okup hk1 (rl_ok_mono (Int.le_refl t) (Int.le_refl _) (by omega) (rl_gr_ok ht.1 hc1 (rl_cu_ok ht.1 hkm) w))
      · rintro ⟨f0y, a1y, a2y, a3y, a4y, a5y, a6y, a7y, a8y, a9y, a10y, a11y, a12y, a13y, a14y⟩ hR'
        refine h123 _ _ _ _ _ _ _ _ _ _ _ _ _ _ _ _ (br_f (by decide) (br_f (by decide) (rl_lt _ c rfl rfl (by omega) (by omega) (fun _ => ?_) (fun q => absurd (hcl.mpr w) (by omega)))))
        refine rl_336i (got := 0) hm (by omega) hR' ?_ ?_ (rl_497 (got := 0) ht (by omega) (by omega) HJ hR' ?_ (by omega) (Or.inl (by omega)))
        · rw [rl_up_s, rl_gs_dn, rl_gs_cu, if_neg (by decide)]
        · rw [rl_up_s, rl_dc_dn, rl_dc_cu, if_pos rfl]
          exact (rl_add _ 1).symm
        · exact rl_okup hk1 (rl_ok_mono (Int.le_refl t) (by omega) (Int.le_refl _) (rl_dn_ok (rl_cu_ok ht.1 hkm)))
    · have hy : rl_i c < 1 ∨ ¬ rl_i c ≤ 20 := by
        rcases hc1 with q | q
        · exact Or.inl ((rl_ltI (b := 1) hc (by omega)).mpr q)
        · exact Or.inr (fun v => absurd ((rl_leI (b := 20) hc (by omega)).mp v) (by omega))
      refine rl_ask_c hm hy (h123 _ _ _ _ _ _ _ _ _ _ _ _ _ _ _ _ (br_f (by decide) (br_t rfl ?_)))
      exact rl_336i (got := -3) hm (by omega) hR (if_neg (by decide)).symm (if_neg (by decide)).symm (hN (-3) (rl_i (-3)) rfl (by omega))
/-! askAll -/
theorem rl_ball {post : Int32 → Prop} {L : Nat} {xs : Nat → Int32} {J12 : Int32 → Int32 → Int32 → (Nat → Int32) → (Nat → Int32) → (Nat → Int32) → (Nat → Int32) → (Nat → Int32) → (Nat → Int32) → (Nat → Int32) → (Nat → Int32) → (Nat → Int32) → (Nat → Int32) → (Nat → Int32) → (Nat → Int32) → (Nat → Int32) → (Nat → Int32) → Prop} {kc ks : Nat} {Q : Int32 → St1 → Prop} {x3 x z x8 x9 x10 iz gz : Int32} {kk : Nat} {t c G : Int} {P : Nat → rl_Mt} {f0 : Int32} {a1 a2 a3 a4 a5 a6 a7 a8 a9 a10 a11 a12 a13 a14 : Nat → Int32} (hkk : 9 ≤ kk ∧ kk < 12) (ht : 0 ≤ t ∧ t ≤ 100000) (hG : 0 ≤ G ∧ G ≤ 900)
    (hc : -2147483648 ≤ c ∧ c ≤ 2147483647) (hz : ((1 ≤ c ∧ c ≤ 20) ∧ gz = 1) ∨ ((c < 1 ∨ 20 < c) ∧ gz = 0))
    (HJ : ∀ P (f0 : Int32) (a1 a2 a3 a4 a5 a6 a7 a8 a9 a10 a11 a12 a13 a14 : Nat → Int32), rl_Rel t P (f0, a1, a2, a3, a4, a5, a6, a7, a8, a9, a10, a11, a12, a13, a14) → (∀ j, j < 4 → rl_ok t (G + 1) (G + 1) (P j)) → J12 (rl_i t) (x3 + 4) f0 a1 a2 a3 a4 a5 a6 a7 a8 a9 a10 a11 a12 a13 a14)
    (hR : rl_Rel t P (f0, a1, a2, a3, a4, a5, a6, a7, a8, a9, a10, a11, a12, a13, a14)) (hk : ∀ j, j < 4 → rl_ok t G G (P j)) (hK : rl_K t P x x8 x9 x10 iz)
    (HQ : ∀ r (f0 : Int32) (a1 a2 a3 a4 a5 a6 a7 a8 a9 a10 a11 a12 a13 a14 : Nat → Int32), wL_law_123 post L xs J12 (rl_i t) x3 (nI kk) x (rl_i c) z x8 x9 x10 r iz gz kc ks f0 a1 a2 a3 a4 a5 a6 a7 a8 a9 a10 a11 a12 a13 a14 → Q r (f0, a1, a2, a3, a4, a5, a6, a7, a8, a9, a10, a11, a12, a13, a14)) : wpX_askAll Q (f0, a1, a2, a3, a4, a5, a6, a7, a8, a9, a10, a11, a12, a13, a14) x (rl_i c) := by
  have hk1 : ∀ j, j < 4 → rl_ok t (G + 1) (G + 1) (P j) := fun j hj => rl_ok_mono (Int.le_refl t) (by omega) (by omega) (hk j hj)
  have h123 : ∀ (r : Int32) (f0 : Int32) (a1 a2 a3 a4 a5 a6 a7 a8 a9 a10 a11 a12 a13 a14 : Nat → Int32), ((gz = 0 → ((r = (-3) → wL_law_497 post L xs J12 (rl_i t) x3 x x8 x9 x10 r iz kc ks f0 a1 a2 a3 a4 a5 a6 a7 a8 a9 a10 a11 a12 a13 a14) ∧ (¬ r = (-3) → post 0))) ∧ (¬ gz = 0 → ((r = 0 → wL_law_497 post L xs J12 (rl_i t) x3 x x8 x9 x10 r iz kc ks f0 a1 a2 a3 a4 a5 a6 a7 a8 a9 a10 a11 a12 a13 a14) ∧ (¬ r = 0 → ((r = 1 → wL_law_497 post L xs J12 (rl_i t) x3 x x8 x9 x10 r iz kc ks f0 a1 a2 a3 a4 a5 a6 a7 a8 a9 a10 a11 a12 a13 a14) ∧ (¬ r = 1 → post 0)))))) → Q r (f0, a1, a2, a3, a4, a5, a6, a7, a8, a9, a10, a11, a12, a13, a14) := by
    intro r f0 a1 a2 a3 a4 a5 a6 a7 a8 a9 a10 a11 a12 a13 a14 h
    refine HQ r _ _ _ _ _ _ _ _ _ _ _ _ _ _ _ ?_
    unfold wL_law_123
    exact pk_le 4 kk (fun _ => pk_le 9 kk (fun _ => pk_le 12 kk (fun q => absurd q (by omega)) (fun _ => h)) (fun q => absurd q (by omega))) (fun q => absurd q (by omega))
  rcases hz with ⟨hc1, rfl⟩ | ⟨hc1, rfl⟩
  · refine rl_askAll ht hc1 hk hR ?_
    intro r P' u hr
    obtain ⟨f0y, a1y, a2y, a3y, a4y, a5y, a6y, a7y, a8y, a9y, a10y, a11y, a12y, a13y, a14y⟩ := u
    intro hR' hk'
    refine h123 _ _ _ _ _ _ _ _ _ _ _ _ _ _ _ _ (br_f (by decide) ?_)
    rcases hr with rfl | rfl
    · exact br_t rfl (rl_497 (got := 0) ht (by omega) (by omega) HJ hR' hk' (by omega) (Or.inl (by omega)))
    · exact br_f (by decide) (br_t rfl (rl_497 (got := 1) ht (by omega) (by omega) HJ hR' hk' (by omega) (Or.inl (by omega))))
  · have hy : rl_i c < 1 ∨ ¬ rl_i c ≤ 20 := by
      rcases hc1 with q | q
      · exact Or.inl ((rl_ltI (b := 1) hc (by omega)).mpr q)
      · exact Or.inr (fun v => absurd ((rl_leI (b := 20) hc (by omega)).mp v) (by omega))
    refine rl_askAll_c hy (h123 _ _ _ _ _ _ _ _ _ _ _ _ _ _ _ _ (br_t rfl (br_t rfl ?_)))
    exact rl_497 (got := -3) ht (by omega) (by omega) HJ hR hk1 (by omega) (Or.inr hK)
/-! pass -/
theorem rl_474 {post : Int32 → Prop} {L : Nat} {xs : Nat → Int32} {J12 : Int32 → Int32 → Int32 → (Nat → Int32) → (Nat → Int32) → (Nat → Int32) → (Nat → Int32) → (Nat → Int32) → (Nat → Int32) → (Nat → Int32) → (Nat → Int32) → (Nat → Int32) → (Nat → Int32) → (Nat → Int32) → (Nat → Int32) → (Nat → Int32) → (Nat → Int32) → Prop} {kc ks : Nat} {x3 x x8 x9 x10 iz : Int32} {t got : Int} {f0 : Int32} {a1 a2 a3 a4 a5 a6 a7 a8 a9 a10 a11 a12 a13 a14 : Nat → Int32} (hg : -10 ≤ got ∧ got ≤ 100000)
    (H1 : 0 ≤ got → wL_law_497 post L xs J12 (rl_i got) x3 x x8 x9 x10 (rl_i got) iz kc ks f0 a1 a2 a3 a4 a5 a6 a7 a8 a9 a10 a11 a12 a13 a14)
    (H0 : got < 0 → wL_law_497 post L xs J12 (rl_i t) x3 x x8 x9 x10 (rl_i got) iz kc ks f0 a1 a2 a3 a4 a5 a6 a7 a8 a9 a10 a11 a12 a13 a14) :
    wL_law_474 post L xs J12 (rl_i t) x3 x x8 x9 x10 (rl_i got) iz (rl_i got) kc ks f0 a1 a2 a3 a4 a5 a6 a7 a8 a9 a10 a11 a12 a13 a14 := by
  unfold wL_law_474 wL_law_496
  exact br_t rfl (rl_le 0 got rfl rfl (by omega) (by omega) H1 H0)
theorem rl_bpass {post : Int32 → Prop} {L : Nat} {xs : Nat → Int32} {J12 : Int32 → Int32 → Int32 → (Nat → Int32) → (Nat → Int32) → (Nat → Int32) → (Nat → Int32) → (Nat → Int32) → (Nat → Int32) → (Nat → Int32) → (Nat → Int32) → (Nat → Int32) → (Nat → Int32) → (Nat → Int32) → (Nat → Int32) → (Nat → Int32) → (Nat → Int32) → Prop} {kc ks : Nat} {Q : Int32 → St1 → Prop} {x3 y z x8 x9 x10 iz gz : Int32} {kk : Nat} {t a G : Int} {P : Nat → rl_Mt} {f0 : Int32} {a1 a2 a3 a4 a5 a6 a7 a8 a9 a10 a11 a12 a13 a14 : Nat → Int32} (hkk : 12 ≤ kk ∧ kk < 16) (ht : 0 ≤ t ∧ t ≤ 100000) (hG : 0 ≤ G ∧ G ≤ 900)
    (ha : -2147483648 ≤ a ∧ a ≤ 2147483647)
    (HJ : ∀ (t' : Int) P (f0 : Int32) (a1 a2 a3 a4 a5 a6 a7 a8 a9 a10 a11 a12 a13 a14 : Nat → Int32), 0 ≤ t' ∧ t' ≤ 100000 → rl_Rel t' P (f0, a1, a2, a3, a4, a5, a6, a7, a8, a9, a10, a11, a12, a13, a14) → (∀ j, j < 4 → rl_ok t' (G + 1) (G + 1) (P j)) → J12 (rl_i t') (x3 + 4) f0 a1 a2 a3 a4 a5 a6 a7 a8 a9 a10 a11 a12 a13 a14)
    (hR : rl_Rel t P (f0, a1, a2, a3, a4, a5, a6, a7, a8, a9, a10, a11, a12, a13, a14)) (hk : ∀ j, j < 4 → rl_ok t G G (P j)) (hK : rl_K t P (rl_i a) x8 x9 x10 iz)
    (HQ : ∀ r (f0 : Int32) (a1 a2 a3 a4 a5 a6 a7 a8 a9 a10 a11 a12 a13 a14 : Nat → Int32), wL_law_123 post L xs J12 (rl_i t) x3 (nI kk) (rl_i a) y z x8 x9 x10 r iz gz kc ks f0 a1 a2 a3 a4 a5 a6 a7 a8 a9 a10 a11 a12 a13 a14 → Q r (f0, a1, a2, a3, a4, a5, a6, a7, a8, a9, a10, a11, a12, a13, a14)) : wpX_pass Q (f0, a1, a2, a3, a4, a5, a6, a7, a8, a9, a10, a11, a12, a13, a14) (rl_i a) := by
  have hk1 : ∀ j, j < 4 → rl_ok t (G + 1) (G + 1) (P j) := fun j hj => rl_ok_mono (Int.le_refl t) (by omega) (by omega) (hk j hj)
  have h123 : ∀ (r : Int32) (f0 : Int32) (a1 a2 a3 a4 a5 a6 a7 a8 a9 a10 a11 a12 a13 a14 : Nat → Int32), ((rl_i a < 0 → wL_law_451 post L xs J12 (rl_i t) x3 (rl_i a) x8 x9 x10 r iz kc ks f0 a1 a2 a3 a4 a5 a6 a7 a8 a9 a10 a11 a12 a13 a14) ∧ (¬ rl_i a < 0 → ((rl_i a ≤ 1000 → ((rl_i t + rl_i a ≤ 100000 → wL_law_474 post L xs J12 (rl_i t) x3 (rl_i a) x8 x9 x10 r iz (rl_i t + rl_i a) kc ks f0 a1 a2 a3 a4 a5 a6 a7 a8 a9 a10 a11 a12 a13 a14) ∧ (¬ rl_i t + rl_i a ≤ 100000 → wL_law_474 post L xs J12 (rl_i t) x3 (rl_i a) x8 x9 x10 r iz (-4) kc ks f0 a1 a2 a3 a4 a5 a6 a7 a8 a9 a10 a11 a12 a13 a14))) ∧ (¬ rl_i a ≤ 1000 → wL_law_451 post L xs J12 (rl_i t) x3 (rl_i a) x8 x9 x10 r iz kc ks f0 a1 a2 a3 a4 a5 a6 a7 a8 a9 a10 a11 a12 a13 a14)))) → Q r (f0, a1, a2, a3, a4, a5, a6, a7, a8, a9, a10, a11, a12, a13, a14) := by
    intro r f0 a1 a2 a3 a4 a5 a6 a7 a8 a9 a10 a11 a12 a13 a14 h
    refine HQ r _ _ _ _ _ _ _ _ _ _ _ _ _ _ _ ?_
    unfold wL_law_123
    exact pk_le 4 kk (fun _ => pk_le 9 kk (fun _ => pk_le 12 kk (fun _ => h) (fun q => absurd q (by omega))) (fun q => absurd q (by omega))) (fun q => absurd q (by omega))
  have hN : ∀ (got : Int) (v : Int32), rl_i got = v → -10 ≤ got ∧ got < 0 → wL_law_474 post L xs J12 (rl_i t) x3 (rl_i a) x8 x9 x10 v iz v kc ks f0 a1 a2 a3 a4 a5 a6 a7 a8 a9 a10 a11 a12 a13 a14 := fun got v hv hg => hv ▸
    rl_474 (by omega) (fun q => absurd q (by omega)) (fun _ => rl_497 ht (by omega) (by omega) (fun P f0 a1 a2 a3 a4 a5 a6 a7 a8 a9 a10 a11 a12 a13 a14 => HJ t P f0 a1 a2 a3 a4 a5 a6 a7 a8 a9 a10 a11 a12 a13 a14 ht) hR hk1 (by omega) (Or.inr hK))
  by_cases ha1 : 0 ≤ a ∧ a ≤ 1000
  · refine rl_pass ht ha1 hR (fun hs => ?_) (fun hs => ?_)
    · rintro ⟨f0y, a1y, a2y, a3y, a4y, a5y, a6y, a7y, a8y, a9y, a10y, a11y, a12y, a13y, a14y⟩ hR'
      refine h123 _ _ _ _ _ _ _ _ _ _ _ _ _ _ _ _ ?_
      refine rl_lt a 0 rfl rfl (by omega) (by omega) (fun q => absurd q (by omega)) (fun _ => rl_le a 1000 rfl rfl (by omega) (by omega) (fun _ => ?_) (fun q => absurd q (by omega)))
      rw [rl_add]
      refine rl_le (t + a) 100000 rfl rfl (by omega) (by omega) (fun _ => ?_) (fun q => absurd q (by omega))
      refine rl_474 (by omega) (fun _ => ?_) (fun q => absurd q (by omega))
      have ht' : 0 ≤ t + a ∧ t + a ≤ 100000 := by omega
      exact rl_497 ht' (by omega) (by omega) (fun P f0 a1 a2 a3 a4 a5 a6 a7 a8 a9 a10 a11 a12 a13 a14 => HJ (t + a) P f0 a1 a2 a3 a4 a5 a6 a7 a8 a9 a10 a11 a12 a13 a14 ht') hR' (fun j hj => rl_ok_mono (by omega) (Int.le_refl _) (Int.le_refl _) (hk1 j hj)) (by omega) (Or.inl (by omega))
    · refine h123 _ _ _ _ _ _ _ _ _ _ _ _ _ _ _ _ ?_
      refine rl_lt a 0 rfl rfl (by omega) (by omega) (fun q => absurd q (by omega)) (fun _ => rl_le a 1000 rfl rfl (by omega) (by omega) (fun _ => ?_) (fun q => absurd q (by omega)))
      rw [rl_add]
      exact rl_le (t + a) 100000 rfl rfl (by omega) (by omega) (fun q => absurd q (by omega)) (fun _ => hN (-4) (-4) rfl (by omega))
  · have hx : rl_i a < 0 ∨ ¬ rl_i a ≤ 1000 := by
      by_cases q : a < 0
      · exact Or.inl ((rl_ltI (b := 0) ha (by omega)).mpr q)
      · exact Or.inr (fun v => absurd ((rl_leI (b := 1000) ha (by omega)).mp v) (by omega))
    refine rl_pass_b hx (h123 _ _ _ _ _ _ _ _ _ _ _ _ _ _ _ _ ?_)
    unfold wL_law_451
    exact br_c (fun _ => hN (-3) (-3) rfl (by omega)) (fun q => br_f (hx.resolve_left q) (hN (-3) (-3) rfl (by omega)))
end
section
theorem rl_103 {post : Int32 → Prop} {L : Nat} {xs : Nat → Int32} {J12 : Int32 → Int32 → Int32 → (Nat → Int32) → (Nat → Int32) → (Nat → Int32) → (Nat → Int32) → (Nat → Int32) → (Nat → Int32) → (Nat → Int32) → (Nat → Int32) → (Nat → Int32) → (Nat → Int32) → (Nat → Int32) → (Nat → Int32) → (Nat → Int32) → (Nat → Int32) → Prop} {kc ks : Nat} {x2 x3 x4 x z x8 x9 x10 x11 iz gz : Int32} {c : Int} {f0 : Int32} {a1 a2 a3 a4 a5 a6 a7 a8 a9 a10 a11 a12 a13 a14 : Nat → Int32} (hc : -2147483648 ≤ c ∧ c ≤ 2147483647) (hz : ((1 ≤ c ∧ c ≤ 20) ∧ gz = 1) ∨ ((c < 1 ∨ 20 < c) ∧ gz = 0))
    (H : wL_law_123 post L xs J12 x2 x3 x4 x (rl_i c) z x8 x9 x10 x11 iz gz kc ks f0 a1 a2 a3 a4 a5 a6 a7 a8 a9 a10 a11 a12 a13 a14) : wL_law_103 post L xs J12 x2 x3 x4 x (rl_i c) z x8 x9 x10 x11 iz kc ks f0 a1 a2 a3 a4 a5 a6 a7 a8 a9 a10 a11 a12 a13 a14 := by
  unfold wL_law_103 wL_law_122
  rcases hz with ⟨hc1, rfl⟩ | ⟨hc1, rfl⟩
  · exact rl_lt c 1 rfl rfl (by omega) (by omega) (fun q => absurd q (by omega)) (fun _ => rl_lt 20 c rfl rfl (by omega) (by omega) (fun q => absurd q (by omega)) (fun _ => H))
  · exact rl_lt c 1 rfl rfl (by omega) (by omega) (fun _ => H) (fun _ => rl_lt 20 c rfl rfl (by omega) (by omega) (fun _ => H) (fun q => absurd q (by omega)))
theorem rl_fl {post : Int32 → Prop} {L : Nat} {xs : Nat → Int32} {J12 : Int32 → Int32 → Int32 → (Nat → Int32) → (Nat → Int32) → (Nat → Int32) → (Nat → Int32) → (Nat → Int32) → (Nat → Int32) → (Nat → Int32) → (Nat → Int32) → (Nat → Int32) → (Nat → Int32) → (Nat → Int32) → (Nat → Int32) → (Nat → Int32) → (Nat → Int32) → Prop} {kc ks : Nat} {x2 x3 x4 x z x8 x9 x10 x11 iz gz : Int32} {t c : Int} {P : Nat → rl_Mt} {y8 y9 y10 : Int32} {f0 : Int32} {a1 a2 a3 a4 a5 a6 a7 a8 a9 a10 a11 a12 a13 a14 : Nat → Int32} (hK : rl_K t P x y8 y9 y10 iz) (hc : -2147483648 ≤ c ∧ c ≤ 2147483647) (hz : ((1 ≤ c ∧ c ≤ 20) ∧ gz = 1) ∨ ((c < 1 ∨ 20 < c) ∧ gz = 0))
    (H : wL_law_123 post L xs J12 x2 x3 x4 x (rl_i c) z x8 x9 x10 x11 iz gz kc ks f0 a1 a2 a3 a4 a5 a6 a7 a8 a9 a10 a11 a12 a13 a14) :
    (x < 0 → wL_law_102 post L xs J12 x2 x3 x4 x (rl_i c) z x8 x9 x10 x11 kc ks f0 a1 a2 a3 a4 a5 a6 a7 a8 a9 a10 a11 a12 a13 a14) ∧ (¬ x < 0 → ((4 ≤ x → wL_law_102 post L xs J12 x2 x3 x4 x (rl_i c) z x8 x9 x10 x11 kc ks f0 a1 a2 a3 a4 a5 a6 a7 a8 a9 a10 a11 a12 a13 a14) ∧ (¬ 4 ≤ x → wL_law_103 post L xs J12 x2 x3 x4 x (rl_i c) z x8 x9 x10 x11 1 kc ks f0 a1 a2 a3 a4 a5 a6 a7 a8 a9 a10 a11 a12 a13 a14))) := by
  unfold wL_law_102
  rcases hK with ⟨hx, rfl⟩ | ⟨rfl, m, hm, rfl, _⟩
  · exact br_c (fun _ => rl_103 hc hz H) (fun q => br_t (Int32.not_lt.mp (hx.resolve_left q)) (rl_103 hc hz H))
  · exact br_f (nI_pos (by omega)) (pk_le 4 m (fun q => absurd q (by omega)) (fun _ => rl_103 hc hz H))
theorem rl_call {post : Int32 → Prop} {L : Nat} {xs : Nat → Int32} {J12 : Int32 → Int32 → Int32 → (Nat → Int32) → (Nat → Int32) → (Nat → Int32) → (Nat → Int32) → (Nat → Int32) → (Nat → Int32) → (Nat → Int32) → (Nat → Int32) → (Nat → Int32) → (Nat → Int32) → (Nat → Int32) → (Nat → Int32) → (Nat → Int32) → (Nat → Int32) → Prop} {kc ks : Nat} {Q : Int32 → St1 → Prop} {x3 x z x8 x9 x10 iz gz : Int32} {kk : Nat} {t c G : Int} {P : Nat → rl_Mt} {f0 : Int32} {a1 a2 a3 a4 a5 a6 a7 a8 a9 a10 a11 a12 a13 a14 : Nat → Int32} (hkk : kk < 16) (ht : 0 ≤ t ∧ t ≤ 100000) (hG : 0 ≤ G ∧ G ≤ 900)
    (hc : -2147483648 ≤ c ∧ c ≤ 2147483647) (hz : ((1 ≤ c ∧ c ≤ 20) ∧ gz = 1) ∨ ((c < 1 ∨ 20 < c) ∧ gz = 0))
    (HJ : ∀ (t' : Int) P (f0 : Int32) (a1 a2 a3 a4 a5 a6 a7 a8 a9 a10 a11 a12 a13 a14 : Nat → Int32), 0 ≤ t' ∧ t' ≤ 100000 → rl_Rel t' P (f0, a1, a2, a3, a4, a5, a6, a7, a8, a9, a10, a11, a12, a13, a14) → (∀ j, j < 4 → rl_ok t' (G + 1) (G + 1) (P j)) → J12 (rl_i t') (x3 + 4) f0 a1 a2 a3 a4 a5 a6 a7 a8 a9 a10 a11 a12 a13 a14)
    (hR : rl_Rel t P (f0, a1, a2, a3, a4, a5, a6, a7, a8, a9, a10, a11, a12, a13, a14)) (hk : ∀ j, j < 4 → rl_ok t G G (P j)) (hK : rl_K t P x x8 x9 x10 iz)
    (HQ : ∀ r (f0 : Int32) (a1 a2 a3 a4 a5 a6 a7 a8 a9 a10 a11 a12 a13 a14 : Nat → Int32), wL_law_123 post L xs J12 (rl_i t) x3 (nI kk) x (rl_i c) z x8 x9 x10 r iz gz kc ks f0 a1 a2 a3 a4 a5 a6 a7 a8 a9 a10 a11 a12 a13 a14 → Q r (f0, a1, a2, a3, a4, a5, a6, a7, a8, a9, a10, a11, a12, a13, a14)) : wpL_call Q (f0, a1, a2, a3, a4, a5, a6, a7, a8, a9, a10, a11, a12, a13, a14) (nI kk) x (rl_i c) z := by
  unfold wpL_call
  dsimp only
  refine pk_le 4 kk (fun q4 => pk_le 9 kk (fun q9 => pk_le 12 kk (fun q12 => ?_) (fun q12 => ?_)) (fun q9 => ?_)) (fun q4 => ?_)
  · obtain ⟨a, ha, rfl⟩ := rl_ex x
    exact rl_bpass ⟨q12, hkk⟩ ht hG ha HJ hR hk hK (fun r f0 a1 a2 a3 a4 a5 a6 a7 a8 a9 a10 a11 a12 a13 a14 h => HQ r f0 a1 a2 a3 a4 a5 a6 a7 a8 a9 a10 a11 a12 a13 a14 h)
  · exact rl_ball ⟨q9, q12⟩ ht hG hc hz (fun P f0 a1 a2 a3 a4 a5 a6 a7 a8 a9 a10 a11 a12 a13 a14 => HJ t P f0 a1 a2 a3 a4 a5 a6 a7 a8 a9 a10 a11 a12 a13 a14 ht) hR hk hK (fun r f0 a1 a2 a3 a4 a5 a6 a7 a8 a9 a10 a11 a12 a13 a14 h => HQ r f0 a1 a2 a3 a4 a5 a6 a7 a8 a9 a10 a11 a12 a13 a14 h)
  · exact rl_bask ⟨q4, q9⟩ ht hG hc hz (fun P f0 a1 a2 a3 a4 a5 a6 a7 a8 a9 a10 a11 a12 a13 a14 => HJ t P f0 a1 a2 a3 a4 a5 a6 a7 a8 a9 a10 a11 a12 a13 a14 ht) hR hk hK (fun r f0 a1 a2 a3 a4 a5 a6 a7 a8 a9 a10 a11 a12 a13 a14 h => HQ r f0 a1 a2 a3 a4 a5 a6 a7 a8 a9 a10 a11 a12 a13 a14 h)
  · exact rl_bset q4 ht hG (fun P f0 a1 a2 a3 a4 a5 a6 a7 a8 a9 a10 a11 a12 a13 a14 => HJ t P f0 a1 a2 a3 a4 a5 a6 a7 a8 a9 a10 a11 a12 a13 a14 ht) hR hk hK (fun r f0 a1 a2 a3 a4 a5 a6 a7 a8 a9 a10 a11 a12 a13 a14 h => HQ r f0 a1 a2 a3 a4 a5 a6 a7 a8 a9 a10 a11 a12 a13 a14 h)
theorem rl_12 {L : Nat} {xs : Nat → Int32} {kc ks : Nat} (hL : L ≤ 260) :
    ∀ (d k : Nat) (t : Int) (P : Nat → rl_Mt) (f0 : Int32) (a1 a2 a3 a4 a5 a6 a7 a8 a9 a10 a11 a12 a13 a14 : Nat → Int32), k + d = 66 → 0 ≤ t ∧ t ≤ 100000 → rl_Rel t P (f0, a1, a2, a3, a4, a5, a6, a7, a8, a9, a10, a11, a12, a13, a14) → (∀ j, j < 4 → rl_ok t (k : Int) (k : Int) (P j)) → wL_law_12 (fun r => r = 1) L xs kc ks (d + 1) (rl_i t) (nI (4 * k)) f0 a1 a2 a3 a4 a5 a6 a7 a8 a9 a10 a11 a12 a13 a14 := by
  intro d
  induction d with
  | zero =>
    intro k t P f0 a1 a2 a3 a4 a5 a6 a7 a8 a9 a10 a11 a12 a13 a14 hd ht hR hk
    exact pk_le L (4 * k + 3) (fun _ => rfl) (fun q => absurd q (by omega)) rfl (nI_add (4 * k) 3)
  | succ d ih =>
    intro k t P f0 a1 a2 a3 a4 a5 a6 a7 a8 a9 a10 a11 a12 a13 a14 hd ht hR hk
    refine pk_le L (4 * k + 3) (fun _ => rfl) (fun q => ?_) rfl (nI_add (4 * k) 3)
    obtain ⟨kk, hkk, e4⟩ := pk_andE (xs (nI (4 * k)).toNatClampNeg) (m := 15) 4 (by decide)
    refine ⟨pk_in (4 * k) L (by omega), nm_r e4 ⟨pk_in (4 * k + 1) L (by omega) (nI_add (4 * k) 1), ?_⟩⟩
    generalize xs (nI (4 * k) + 1).toNatClampNeg = x
    refine nm_e ⟨pk_in (4 * k + 2) L (by omega) (nI_add (4 * k) 2), ?_⟩
    obtain ⟨c, hc, ey⟩ := rl_ex (xs (nI (4 * k) + 2).toNatClampNeg)
    refine nm_r ey ⟨pk_in (4 * k + 3) L (by omega) (nI_add (4 * k) 3), ?_⟩
    generalize xs (nI (4 * k) + 3).toNatClampNeg = z
    refine nm_e ?_
    have hz : ∃ gz : Int32, ((1 ≤ c ∧ c ≤ 20) ∧ gz = 1) ∨ ((c < 1 ∨ 20 < c) ∧ gz = 0) := by
      by_cases w : 1 ≤ c ∧ c ≤ 20
      · exact ⟨1, Or.inl ⟨w, rfl⟩⟩
      · exact ⟨0, Or.inr ⟨by omega, rfl⟩⟩
    obtain ⟨gz, hz⟩ := hz
    have HJ : ∀ (t' : Int) P (f0 : Int32) (a1 a2 a3 a4 a5 a6 a7 a8 a9 a10 a11 a12 a13 a14 : Nat → Int32), 0 ≤ t' ∧ t' ≤ 100000 → rl_Rel t' P (f0, a1, a2, a3, a4, a5, a6, a7, a8, a9, a10, a11, a12, a13, a14) → (∀ j, j < 4 → rl_ok t' ((k : Int) + 1) ((k : Int) + 1) (P j)) → wL_law_12 (fun r => r = 1) L xs kc ks (d + 1) (rl_i t') (nI (4 * k) + 4) f0 a1 a2 a3 a4 a5 a6 a7 a8 a9 a10 a11 a12 a13 a14 := by
      intro t' P' f0 a1 a2 a3 a4 a5 a6 a7 a8 a9 a10 a11 a12 a13 a14 ht' hR' hk'
      have e : nI (4 * k) + 4 = nI (4 * (k + 1)) := nI_add (4 * k) 4
      rw [e]
      exact ih (k + 1) t' P' f0 a1 a2 a3 a4 a5 a6 a7 a8 a9 a10 a11 a12 a13 a14 (by omega) ht' hR' (fun j hj => hk' j hj)
    rcases pk_ix x (n := 4) (by omega) with h | h | ⟨m, hm, rfl⟩
    · have hx : x < 0 ∨ ¬ x < 4 := Or.inl h
      refine rl_granted_out hx (rl_denied_out hx (rl_room_out hx ?_))
      exact rl_call hkk ht (by omega) hc hz HJ hR hk (Or.inl ⟨hx, rfl⟩) (fun r f0 a1 a2 a3 a4 a5 a6 a7 a8 a9 a10 a11 a12 a13 a14 H => rl_fl (P := P) (t := t) (y8 := 0) (y9 := 0) (y10 := 0) (Or.inl ⟨hx, rfl⟩) hc hz H)
    · have hx : x < 0 ∨ ¬ x < 4 := Or.inr (Int32.not_lt.mpr h)
      refine rl_granted_out hx (rl_denied_out hx (rl_room_out hx ?_))
      exact rl_call hkk ht (by omega) hc hz HJ hR hk (Or.inl ⟨hx, rfl⟩) (fun r f0 a1 a2 a3 a4 a5 a6 a7 a8 a9 a10 a11 a12 a13 a14 H => rl_fl (P := P) (t := t) (y8 := 0) (y9 := 0) (y10 := 0) (Or.inl ⟨hx, rfl⟩) hc hz H)
    · refine rl_granted hm hR (rl_denied hm hR (rl_room hm ht (hk m hm) hR ?_))
      rintro ⟨f0y, a1y, a2y, a3y, a4y, a5y, a6y, a7y, a8y, a9y, a10y, a11y, a12y, a13y, a14y⟩ hR'
      have hK : rl_K t (rl_up P m (rl_cu t (P m))) (nI m) (rl_i (rl_gs (P m))) (rl_i (rl_dc (P m))) (rl_i (rl_cl (rl_rm t (rl_cu t (P m))))) 1 := by
        refine Or.inr ⟨rfl, m, hm, rfl, ?_, ?_, ?_⟩
        · rw [rl_up_s, rl_gs_cu]
        · rw [rl_up_s, rl_dc_cu]
        · rw [rl_up_s, rl_cu_cu]
      exact rl_call hkk ht (by omega) hc hz HJ hR' (rl_okup hk (rl_cu_ok ht.1 (hk m hm))) hK (fun r f0 a1 a2 a3 a4 a5 a6 a7 a8 a9 a10 a11 a12 a13 a14 H => rl_fl hK hc hz H)
theorem i_vc (xs : Nat → Int32) (L : Nat) (hL : L ≤ 260) : wpL_law (fun r => r = 1) L xs := by
  unfold wpL_law
  refine ⟨14, 304, by omega, by omega, rl_init ?_⟩
  intro P u
  obtain ⟨f0, a1, a2, a3, a4, a5, a6, a7, a8, a9, a10, a11, a12, a13, a14⟩ := u
  intro hR hP
  refine ⟨66 + 1, ?_⟩
  exact rl_12 hL 66 0 0 P f0 a1 a2 a3 a4 a5 a6 a7 a8 a9 a10 a11 a12 a13 a14 (by omega) (by omega) hR (fun j hj => by rw [hP j hj]; exact rl_M0_ok)
end
